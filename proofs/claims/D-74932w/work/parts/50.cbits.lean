theorem g_ldcw {E : Cf} {Γ : Gm} {A : Nat → Prop} {ρ : State → Prop} {cc : ByteArray} {nL : Nat} {own : String} {rm : Room} {I : Heap → Prop} {cells slots pc : Nat} {lv : List (Option Value)} {st : List Value} {v : Int32} {index : Nat} (C : Cx E Γ A ρ cc nL own rm) (d : decode cc pc = .ok (.ldc_w index, 3)) (hq : Cond.constant own index v ∈ lw_all) (k : G E I cells slots (pc + 3) lv (.int v :: st)) : G E I cells slots pc lv (st) := fun H locs ls hI hS hl => lv_ldcw C.x C.b C.ow (C.ts _ hq) d (k H locs ls hI hS hl)
/-- Integer.bitCount -/
def ush (x : Int32) (k : Int32) : Int32 := (x.toUInt32 >>> (k.toUInt32 &&& Int32.toUInt32 31)).toInt32
def bc1 (i : Int32) : Int32 := i - (ush i 1 &&& 1431655765)
def bc2 (i : Int32) : Int32 := (i &&& 858993459) + (ush i 2 &&& 858993459)
def bc3 (i : Int32) : Int32 := (i + ush i 4) &&& 252645135
def bc4 (i : Int32) : Int32 := i + ush i 8
def bc5 (i : Int32) : Int32 := i + ush i 16
def bcI (i : Int32) : Int32 := bc5 (bc4 (bc3 (bc2 (bc1 i)))) &&& 63
def pcS : Nat → Nat → Nat
  | 0, _ => 0
  | k + 1, n => n % 2 + pcS k (n / 2)
theorem pcS_eq : ∀ (k n : Nat), n < 2 ^ k → pcN n = pcS k n
  | 0, n, h => by
    have : n = 0 := by omega
    subst this
    rw [pcN]; rfl
  | k + 1, n, h => by
    rw [pcN]
    split
    · rename_i e
      subst e
      have : ∀ k, pcS k 0 = 0 := fun k => by
        induction k with
        | zero => rfl
        | succ k ih => simp [pcS, ih]
      rw [this]
    · rw [pcS_eq k (n / 2) (by rw [Nat.pow_succ] at h; omega)]; rfl
theorem bcI_N {n : Nat} (h : n < 4096) : bcI (nI n) = nI (pcN n) := by
  have key : ∀ a : Fin 64, ∀ b : Fin 64, bcI (nI (64 * a.1 + b.1)) = nI (pcS 12 (64 * a.1 + b.1)) := by decide +kernel
  have := key ⟨n / 64, by omega⟩ ⟨n % 64, by omega⟩
  simp only [Nat.div_add_mod] at this
  rw [this, pcS_eq 12 n (by omega)]
/-- Integer.numberOfTrailingZeros -/
def tz0 (i : Int32) : Int32 := (i ^^^ (-1)) &&& (i - 1)
set_option maxRecDepth 100000 in
theorem cc_bitCount {l : Launch} {Γ : Gm} {A : Nat → Prop} {ρ : State → Prop} (B : Bs l A ρ) (v : Int32) : CtP l Γ A ρ yJ16_bitCount cJ16_bitCount 1 (some .int) 0 0 [.int v] (.int (bcI v)) := by
  intro J
  refine Ct.of B.1 B.2 (by decide) [some (.int v)] (Nat.le_of_ble_eq_true rfl) rfl ?_
  intro E hE C R
  subst hE
  refine g_iload_n C dJ16_bitCount_0 rfl rfl ?_
  refine g_iload_n C dJ16_bitCount_1 rfl rfl ?_
  refine g_iconst (v := 1) C dJ16_bitCount_2 rfl ?_
  refine g_iushr C dJ16_bitCount_3 ?_
  refine g_ldcw (v := 1431655765) C dJ16_bitCount_4 q1036 ?_
  refine g_iand C dJ16_bitCount_7 ?_
  refine g_isub C dJ16_bitCount_8 ?_
  refine g_topi (y := bc1 v) (rfl) ?_
  refine g_istore_n (lv' := [some (.int (bc1 v))]) C dJ16_bitCount_9 rfl (by decide) rfl ?_
  refine g_iload_n C dJ16_bitCount_10 rfl rfl ?_
  refine g_ldcw (v := 858993459) C dJ16_bitCount_11 q1037 ?_
  refine g_iand C dJ16_bitCount_14 ?_
  refine g_iload_n C dJ16_bitCount_15 rfl rfl ?_
  refine g_iconst (v := 2) C dJ16_bitCount_16 rfl ?_
  refine g_iushr C dJ16_bitCount_17 ?_
  refine g_ldcw (v := 858993459) C dJ16_bitCount_18 q1037 ?_
  refine g_iand C dJ16_bitCount_21 ?_
  refine g_iadd C dJ16_bitCount_22 ?_
  refine g_topi (y := bc2 (bc1 v)) (rfl) ?_
  refine g_istore_n (lv' := [some (.int (bc2 (bc1 v)))]) C dJ16_bitCount_23 rfl (by decide) rfl ?_
  refine g_iload_n C dJ16_bitCount_24 rfl rfl ?_
  refine g_iload_n C dJ16_bitCount_25 rfl rfl ?_
  refine g_iconst (v := 4) C dJ16_bitCount_26 rfl ?_
  refine g_iushr C dJ16_bitCount_27 ?_
  refine g_iadd C dJ16_bitCount_28 ?_
  refine g_ldcw (v := 252645135) C dJ16_bitCount_29 q1038 ?_
  refine g_iand C dJ16_bitCount_32 ?_
  refine g_topi (y := bc3 (bc2 (bc1 v))) (rfl) ?_
  refine g_istore_n (lv' := [some (.int (bc3 (bc2 (bc1 v))))]) C dJ16_bitCount_33 rfl (by decide) rfl ?_
  refine g_iload_n C dJ16_bitCount_34 rfl rfl ?_
  refine g_iload_n C dJ16_bitCount_35 rfl rfl ?_
  refine g_bipush (v := 8) C dJ16_bitCount_36 rfl ?_
  refine g_iushr C dJ16_bitCount_38 ?_
  refine g_iadd C dJ16_bitCount_39 ?_
  refine g_topi (y := bc4 (bc3 (bc2 (bc1 v)))) (rfl) ?_
  refine g_istore_n (lv' := [some (.int (bc4 (bc3 (bc2 (bc1 v)))))]) C dJ16_bitCount_40 rfl (by decide) rfl ?_
  refine g_iload_n C dJ16_bitCount_41 rfl rfl ?_
  refine g_iload_n C dJ16_bitCount_42 rfl rfl ?_
  refine g_bipush (v := 16) C dJ16_bitCount_43 rfl ?_
  refine g_iushr C dJ16_bitCount_45 ?_
  refine g_iadd C dJ16_bitCount_46 ?_
  refine g_topi (y := bc5 (bc4 (bc3 (bc2 (bc1 v))))) (rfl) ?_
  refine g_istore_n (lv' := [some (.int (bc5 (bc4 (bc3 (bc2 (bc1 v))))))]) C dJ16_bitCount_47 rfl (by decide) rfl ?_
  refine g_iload_n C dJ16_bitCount_48 rfl rfl ?_
  refine g_bipush (v := 63) C dJ16_bitCount_49 rfl ?_
  refine g_iand C dJ16_bitCount_51 ?_
  exact g_iret C R (Nat.le_of_ble_eq_true rfl) (Nat.le_of_ble_eq_true rfl) dJ16_bitCount_52 (fun H hH => ⟨rfl, hH⟩)
def tzI (i : Int32) : Int32 :=
  let a := tz0 i
  if 0 < a then
    let p : Int32 × Int32 := (1, a)
    let p := if p.2 ≤ 65536 then p else (p.1 + 16, ush p.2 16)
    let p := if p.2 ≤ 256 then p else (p.1 + 8, ush p.2 8)
    let p := if p.2 ≤ 16 then p else (p.1 + 4, ush p.2 4)
    let p := if p.2 ≤ 4 then p else (p.1 + 2, ush p.2 2)
    p.1 + ush p.2 1
  else a &&& 32
theorem tzI_N {w : Nat} (h : w < 12) : tzI (nI (2 ^ w)) = nI w := by
  have : ∀ m : Fin 12, tzI (nI (2 ^ m.1)) = nI m.1 := by decide +kernel
  exact this ⟨w, h⟩
set_option maxRecDepth 100000 in
theorem cc_ntz {l : Launch} {Γ : Gm} {A : Nat → Prop} {ρ : State → Prop} (B : Bs l A ρ) (i : Int32) : CtP l Γ A ρ yJ16_numberOfTrailingZeros cJ16_numberOfTrailingZeros 2 (some .int) 0 0 [.int i] (.int (tzI i)) := by
  intro J
  refine Ct.of B.1 B.2 (by decide) [some (.int i), none] (Nat.le_of_ble_eq_true rfl) rfl ?_
  intro E hE C R
  subst hE
  refine g_iload_n C dJ16_numberOfTrailingZeros_0 rfl rfl ?_
  refine g_iconst (v := (-1)) C dJ16_numberOfTrailingZeros_1 rfl ?_
  refine g_ixor C dJ16_numberOfTrailingZeros_2 ?_
  refine g_iload_n C dJ16_numberOfTrailingZeros_3 rfl rfl ?_
  refine g_iconst (v := 1) C dJ16_numberOfTrailingZeros_4 rfl ?_
  refine g_isub C dJ16_numberOfTrailingZeros_5 ?_
  refine g_iand C dJ16_numberOfTrailingZeros_6 ?_
  refine g_topi (y := tz0 i) (rfl) ?_
  refine g_istore_n (lv' := [some (.int (tz0 i)), none]) C dJ16_numberOfTrailingZeros_7 rfl (by decide) rfl ?_
  refine g_iload_n C dJ16_numberOfTrailingZeros_8 rfl rfl ?_
  refine g_if_gt 17 C dJ16_numberOfTrailingZeros_9 rfl (fun c9 => ?_) (fun c9 => ?_)
  · refine g_iconst (v := 1) C dJ16_numberOfTrailingZeros_17 rfl ?_
    refine g_istore_n (lv' := [some (.int (tz0 i)), some (.int 1)]) C dJ16_numberOfTrailingZeros_18 rfl (by decide) rfl ?_
    refine g_iload_n C dJ16_numberOfTrailingZeros_19 rfl rfl ?_
    refine g_ldcw (v := 65536) C dJ16_numberOfTrailingZeros_20 q1373 ?_
    refine g_icmp_le 34 C dJ16_numberOfTrailingZeros_23 rfl (fun c23 => ?_) (fun c23 => ?_)
    · refine g_iload_n C dJ16_numberOfTrailingZeros_34 rfl rfl ?_
      refine g_sipush (v := 256) C dJ16_numberOfTrailingZeros_35 rfl ?_
      refine g_icmp_le 49 C dJ16_numberOfTrailingZeros_38 rfl (fun c38 => ?_) (fun c38 => ?_)
      · refine g_iload_n C dJ16_numberOfTrailingZeros_49 rfl rfl ?_
        refine g_bipush (v := 16) C dJ16_numberOfTrailingZeros_50 rfl ?_
        refine g_icmp_le 62 C dJ16_numberOfTrailingZeros_52 rfl (fun c52 => ?_) (fun c52 => ?_)
        · refine g_iload_n C dJ16_numberOfTrailingZeros_62 rfl rfl ?_
          refine g_iconst (v := 4) C dJ16_numberOfTrailingZeros_63 rfl ?_
          refine g_icmp_le 74 C dJ16_numberOfTrailingZeros_64 rfl (fun c64 => ?_) (fun c64 => ?_)
          · refine g_iload_n C dJ16_numberOfTrailingZeros_74 rfl rfl ?_
            refine g_iload_n C dJ16_numberOfTrailingZeros_75 rfl rfl ?_
            refine g_iconst (v := 1) C dJ16_numberOfTrailingZeros_76 rfl ?_
            refine g_iushr C dJ16_numberOfTrailingZeros_77 ?_
            refine g_iadd C dJ16_numberOfTrailingZeros_78 ?_
            exact g_iret C R (Nat.le_of_ble_eq_true rfl) (Nat.le_of_ble_eq_true rfl) dJ16_numberOfTrailingZeros_79 (fun H hH => ⟨by unfold tzI; simp only [if_pos c9, if_pos c23, if_pos c38, if_pos c52, if_pos c64] <;> rfl, hH⟩)
          · refine g_iinc (x := 1) (v := 3) (lv' := [some (.int (tz0 i)), some (.int 3)]) C dJ16_numberOfTrailingZeros_67 rfl (by decide) (by decide) rfl ?_
            refine g_iload_n C dJ16_numberOfTrailingZeros_70 rfl rfl ?_
            refine g_iconst (v := 2) C dJ16_numberOfTrailingZeros_71 rfl ?_
            refine g_iushr C dJ16_numberOfTrailingZeros_72 ?_
            refine g_istore_n (lv' := [some (.int (ush (tz0 i) 2)), some (.int 3)]) C dJ16_numberOfTrailingZeros_73 rfl (by decide) rfl ?_
            refine g_iload_n C dJ16_numberOfTrailingZeros_74 rfl rfl ?_
            refine g_iload_n C dJ16_numberOfTrailingZeros_75 rfl rfl ?_
            refine g_iconst (v := 1) C dJ16_numberOfTrailingZeros_76 rfl ?_
            refine g_iushr C dJ16_numberOfTrailingZeros_77 ?_
            refine g_iadd C dJ16_numberOfTrailingZeros_78 ?_
            exact g_iret C R (Nat.le_of_ble_eq_true rfl) (Nat.le_of_ble_eq_true rfl) dJ16_numberOfTrailingZeros_79 (fun H hH => ⟨by unfold tzI; simp only [if_pos c9, if_pos c23, if_pos c38, if_pos c52, if_neg c64] <;> rfl, hH⟩)
        · refine g_iinc (x := 1) (v := 5) (lv' := [some (.int (tz0 i)), some (.int 5)]) C dJ16_numberOfTrailingZeros_55 rfl (by decide) (by decide) rfl ?_
          refine g_iload_n C dJ16_numberOfTrailingZeros_58 rfl rfl ?_
          refine g_iconst (v := 4) C dJ16_numberOfTrailingZeros_59 rfl ?_
          refine g_iushr C dJ16_numberOfTrailingZeros_60 ?_
          refine g_istore_n (lv' := [some (.int (ush (tz0 i) 4)), some (.int 5)]) C dJ16_numberOfTrailingZeros_61 rfl (by decide) rfl ?_
          refine g_iload_n C dJ16_numberOfTrailingZeros_62 rfl rfl ?_
          refine g_iconst (v := 4) C dJ16_numberOfTrailingZeros_63 rfl ?_
          refine g_icmp_le 74 C dJ16_numberOfTrailingZeros_64 rfl (fun c64 => ?_) (fun c64 => ?_)
          · refine g_iload_n C dJ16_numberOfTrailingZeros_74 rfl rfl ?_
            refine g_iload_n C dJ16_numberOfTrailingZeros_75 rfl rfl ?_
            refine g_iconst (v := 1) C dJ16_numberOfTrailingZeros_76 rfl ?_
            refine g_iushr C dJ16_numberOfTrailingZeros_77 ?_
            refine g_iadd C dJ16_numberOfTrailingZeros_78 ?_
            exact g_iret C R (Nat.le_of_ble_eq_true rfl) (Nat.le_of_ble_eq_true rfl) dJ16_numberOfTrailingZeros_79 (fun H hH => ⟨by unfold tzI; simp only [if_pos c9, if_pos c23, if_pos c38, if_neg c52, if_pos c64] <;> rfl, hH⟩)
          · refine g_iinc (x := 5) (v := 7) (lv' := [some (.int (ush (tz0 i) 4)), some (.int 7)]) C dJ16_numberOfTrailingZeros_67 rfl (by decide) (by decide) rfl ?_
            refine g_iload_n C dJ16_numberOfTrailingZeros_70 rfl rfl ?_
            refine g_iconst (v := 2) C dJ16_numberOfTrailingZeros_71 rfl ?_
            refine g_iushr C dJ16_numberOfTrailingZeros_72 ?_
            refine g_istore_n (lv' := [some (.int (ush (ush (tz0 i) 4) 2)), some (.int 7)]) C dJ16_numberOfTrailingZeros_73 rfl (by decide) rfl ?_
            refine g_iload_n C dJ16_numberOfTrailingZeros_74 rfl rfl ?_
            refine g_iload_n C dJ16_numberOfTrailingZeros_75 rfl rfl ?_
            refine g_iconst (v := 1) C dJ16_numberOfTrailingZeros_76 rfl ?_
            refine g_iushr C dJ16_numberOfTrailingZeros_77 ?_
            refine g_iadd C dJ16_numberOfTrailingZeros_78 ?_
            exact g_iret C R (Nat.le_of_ble_eq_true rfl) (Nat.le_of_ble_eq_true rfl) dJ16_numberOfTrailingZeros_79 (fun H hH => ⟨by unfold tzI; simp only [if_pos c9, if_pos c23, if_pos c38, if_neg c52, if_neg c64] <;> rfl, hH⟩)
      · refine g_iinc (x := 1) (v := 9) (lv' := [some (.int (tz0 i)), some (.int 9)]) C dJ16_numberOfTrailingZeros_41 rfl (by decide) (by decide) rfl ?_
        refine g_iload_n C dJ16_numberOfTrailingZeros_44 rfl rfl ?_
        refine g_bipush (v := 8) C dJ16_numberOfTrailingZeros_45 rfl ?_
        refine g_iushr C dJ16_numberOfTrailingZeros_47 ?_
        refine g_istore_n (lv' := [some (.int (ush (tz0 i) 8)), some (.int 9)]) C dJ16_numberOfTrailingZeros_48 rfl (by decide) rfl ?_
        refine g_iload_n C dJ16_numberOfTrailingZeros_49 rfl rfl ?_
        refine g_bipush (v := 16) C dJ16_numberOfTrailingZeros_50 rfl ?_
        refine g_icmp_le 62 C dJ16_numberOfTrailingZeros_52 rfl (fun c52 => ?_) (fun c52 => ?_)
        · refine g_iload_n C dJ16_numberOfTrailingZeros_62 rfl rfl ?_
          refine g_iconst (v := 4) C dJ16_numberOfTrailingZeros_63 rfl ?_
          refine g_icmp_le 74 C dJ16_numberOfTrailingZeros_64 rfl (fun c64 => ?_) (fun c64 => ?_)
          · refine g_iload_n C dJ16_numberOfTrailingZeros_74 rfl rfl ?_
            refine g_iload_n C dJ16_numberOfTrailingZeros_75 rfl rfl ?_
            refine g_iconst (v := 1) C dJ16_numberOfTrailingZeros_76 rfl ?_
            refine g_iushr C dJ16_numberOfTrailingZeros_77 ?_
            refine g_iadd C dJ16_numberOfTrailingZeros_78 ?_
            exact g_iret C R (Nat.le_of_ble_eq_true rfl) (Nat.le_of_ble_eq_true rfl) dJ16_numberOfTrailingZeros_79 (fun H hH => ⟨by unfold tzI; simp only [if_pos c9, if_pos c23, if_neg c38, if_pos c52, if_pos c64] <;> rfl, hH⟩)
          · refine g_iinc (x := 9) (v := 11) (lv' := [some (.int (ush (tz0 i) 8)), some (.int 11)]) C dJ16_numberOfTrailingZeros_67 rfl (by decide) (by decide) rfl ?_
            refine g_iload_n C dJ16_numberOfTrailingZeros_70 rfl rfl ?_
            refine g_iconst (v := 2) C dJ16_numberOfTrailingZeros_71 rfl ?_
            refine g_iushr C dJ16_numberOfTrailingZeros_72 ?_
            refine g_istore_n (lv' := [some (.int (ush (ush (tz0 i) 8) 2)), some (.int 11)]) C dJ16_numberOfTrailingZeros_73 rfl (by decide) rfl ?_
            refine g_iload_n C dJ16_numberOfTrailingZeros_74 rfl rfl ?_
            refine g_iload_n C dJ16_numberOfTrailingZeros_75 rfl rfl ?_
            refine g_iconst (v := 1) C dJ16_numberOfTrailingZeros_76 rfl ?_
            refine g_iushr C dJ16_numberOfTrailingZeros_77 ?_
            refine g_iadd C dJ16_numberOfTrailingZeros_78 ?_
            exact g_iret C R (Nat.le_of_ble_eq_true rfl) (Nat.le_of_ble_eq_true rfl) dJ16_numberOfTrailingZeros_79 (fun H hH => ⟨by unfold tzI; simp only [if_pos c9, if_pos c23, if_neg c38, if_pos c52, if_neg c64] <;> rfl, hH⟩)
        · refine g_iinc (x := 9) (v := 13) (lv' := [some (.int (ush (tz0 i) 8)), some (.int 13)]) C dJ16_numberOfTrailingZeros_55 rfl (by decide) (by decide) rfl ?_
          refine g_iload_n C dJ16_numberOfTrailingZeros_58 rfl rfl ?_
          refine g_iconst (v := 4) C dJ16_numberOfTrailingZeros_59 rfl ?_
          refine g_iushr C dJ16_numberOfTrailingZeros_60 ?_
          refine g_istore_n (lv' := [some (.int (ush (ush (tz0 i) 8) 4)), some (.int 13)]) C dJ16_numberOfTrailingZeros_61 rfl (by decide) rfl ?_
          refine g_iload_n C dJ16_numberOfTrailingZeros_62 rfl rfl ?_
          refine g_iconst (v := 4) C dJ16_numberOfTrailingZeros_63 rfl ?_
          refine g_icmp_le 74 C dJ16_numberOfTrailingZeros_64 rfl (fun c64 => ?_) (fun c64 => ?_)
          · refine g_iload_n C dJ16_numberOfTrailingZeros_74 rfl rfl ?_
            refine g_iload_n C dJ16_numberOfTrailingZeros_75 rfl rfl ?_
            refine g_iconst (v := 1) C dJ16_numberOfTrailingZeros_76 rfl ?_
            refine g_iushr C dJ16_numberOfTrailingZeros_77 ?_
            refine g_iadd C dJ16_numberOfTrailingZeros_78 ?_
            exact g_iret C R (Nat.le_of_ble_eq_true rfl) (Nat.le_of_ble_eq_true rfl) dJ16_numberOfTrailingZeros_79 (fun H hH => ⟨by unfold tzI; simp only [if_pos c9, if_pos c23, if_neg c38, if_neg c52, if_pos c64] <;> rfl, hH⟩)
          · refine g_iinc (x := 13) (v := 15) (lv' := [some (.int (ush (ush (tz0 i) 8) 4)), some (.int 15)]) C dJ16_numberOfTrailingZeros_67 rfl (by decide) (by decide) rfl ?_
            refine g_iload_n C dJ16_numberOfTrailingZeros_70 rfl rfl ?_
            refine g_iconst (v := 2) C dJ16_numberOfTrailingZeros_71 rfl ?_
            refine g_iushr C dJ16_numberOfTrailingZeros_72 ?_
            refine g_istore_n (lv' := [some (.int (ush (ush (ush (tz0 i) 8) 4) 2)), some (.int 15)]) C dJ16_numberOfTrailingZeros_73 rfl (by decide) rfl ?_
            refine g_iload_n C dJ16_numberOfTrailingZeros_74 rfl rfl ?_
            refine g_iload_n C dJ16_numberOfTrailingZeros_75 rfl rfl ?_
            refine g_iconst (v := 1) C dJ16_numberOfTrailingZeros_76 rfl ?_
            refine g_iushr C dJ16_numberOfTrailingZeros_77 ?_
            refine g_iadd C dJ16_numberOfTrailingZeros_78 ?_
            exact g_iret C R (Nat.le_of_ble_eq_true rfl) (Nat.le_of_ble_eq_true rfl) dJ16_numberOfTrailingZeros_79 (fun H hH => ⟨by unfold tzI; simp only [if_pos c9, if_pos c23, if_neg c38, if_neg c52, if_neg c64] <;> rfl, hH⟩)
    · refine g_iinc (x := 1) (v := 17) (lv' := [some (.int (tz0 i)), some (.int 17)]) C dJ16_numberOfTrailingZeros_26 rfl (by decide) (by decide) rfl ?_
      refine g_iload_n C dJ16_numberOfTrailingZeros_29 rfl rfl ?_
      refine g_bipush (v := 16) C dJ16_numberOfTrailingZeros_30 rfl ?_
      refine g_iushr C dJ16_numberOfTrailingZeros_32 ?_
      refine g_istore_n (lv' := [some (.int (ush (tz0 i) 16)), some (.int 17)]) C dJ16_numberOfTrailingZeros_33 rfl (by decide) rfl ?_
      refine g_iload_n C dJ16_numberOfTrailingZeros_34 rfl rfl ?_
      refine g_sipush (v := 256) C dJ16_numberOfTrailingZeros_35 rfl ?_
      refine g_icmp_le 49 C dJ16_numberOfTrailingZeros_38 rfl (fun c38 => ?_) (fun c38 => ?_)
      · refine g_iload_n C dJ16_numberOfTrailingZeros_49 rfl rfl ?_
        refine g_bipush (v := 16) C dJ16_numberOfTrailingZeros_50 rfl ?_
        refine g_icmp_le 62 C dJ16_numberOfTrailingZeros_52 rfl (fun c52 => ?_) (fun c52 => ?_)
        · refine g_iload_n C dJ16_numberOfTrailingZeros_62 rfl rfl ?_
          refine g_iconst (v := 4) C dJ16_numberOfTrailingZeros_63 rfl ?_
          refine g_icmp_le 74 C dJ16_numberOfTrailingZeros_64 rfl (fun c64 => ?_) (fun c64 => ?_)
          · refine g_iload_n C dJ16_numberOfTrailingZeros_74 rfl rfl ?_
            refine g_iload_n C dJ16_numberOfTrailingZeros_75 rfl rfl ?_
            refine g_iconst (v := 1) C dJ16_numberOfTrailingZeros_76 rfl ?_
            refine g_iushr C dJ16_numberOfTrailingZeros_77 ?_
            refine g_iadd C dJ16_numberOfTrailingZeros_78 ?_
            exact g_iret C R (Nat.le_of_ble_eq_true rfl) (Nat.le_of_ble_eq_true rfl) dJ16_numberOfTrailingZeros_79 (fun H hH => ⟨by unfold tzI; simp only [if_pos c9, if_neg c23, if_pos c38, if_pos c52, if_pos c64] <;> rfl, hH⟩)
          · refine g_iinc (x := 17) (v := 19) (lv' := [some (.int (ush (tz0 i) 16)), some (.int 19)]) C dJ16_numberOfTrailingZeros_67 rfl (by decide) (by decide) rfl ?_
            refine g_iload_n C dJ16_numberOfTrailingZeros_70 rfl rfl ?_
            refine g_iconst (v := 2) C dJ16_numberOfTrailingZeros_71 rfl ?_
            refine g_iushr C dJ16_numberOfTrailingZeros_72 ?_
            refine g_istore_n (lv' := [some (.int (ush (ush (tz0 i) 16) 2)), some (.int 19)]) C dJ16_numberOfTrailingZeros_73 rfl (by decide) rfl ?_
            refine g_iload_n C dJ16_numberOfTrailingZeros_74 rfl rfl ?_
            refine g_iload_n C dJ16_numberOfTrailingZeros_75 rfl rfl ?_
            refine g_iconst (v := 1) C dJ16_numberOfTrailingZeros_76 rfl ?_
            refine g_iushr C dJ16_numberOfTrailingZeros_77 ?_
            refine g_iadd C dJ16_numberOfTrailingZeros_78 ?_
            exact g_iret C R (Nat.le_of_ble_eq_true rfl) (Nat.le_of_ble_eq_true rfl) dJ16_numberOfTrailingZeros_79 (fun H hH => ⟨by unfold tzI; simp only [if_pos c9, if_neg c23, if_pos c38, if_pos c52, if_neg c64] <;> rfl, hH⟩)
        · refine g_iinc (x := 17) (v := 21) (lv' := [some (.int (ush (tz0 i) 16)), some (.int 21)]) C dJ16_numberOfTrailingZeros_55 rfl (by decide) (by decide) rfl ?_
          refine g_iload_n C dJ16_numberOfTrailingZeros_58 rfl rfl ?_
          refine g_iconst (v := 4) C dJ16_numberOfTrailingZeros_59 rfl ?_
          refine g_iushr C dJ16_numberOfTrailingZeros_60 ?_
          refine g_istore_n (lv' := [some (.int (ush (ush (tz0 i) 16) 4)), some (.int 21)]) C dJ16_numberOfTrailingZeros_61 rfl (by decide) rfl ?_
          refine g_iload_n C dJ16_numberOfTrailingZeros_62 rfl rfl ?_
          refine g_iconst (v := 4) C dJ16_numberOfTrailingZeros_63 rfl ?_
          refine g_icmp_le 74 C dJ16_numberOfTrailingZeros_64 rfl (fun c64 => ?_) (fun c64 => ?_)
          · refine g_iload_n C dJ16_numberOfTrailingZeros_74 rfl rfl ?_
            refine g_iload_n C dJ16_numberOfTrailingZeros_75 rfl rfl ?_
            refine g_iconst (v := 1) C dJ16_numberOfTrailingZeros_76 rfl ?_
            refine g_iushr C dJ16_numberOfTrailingZeros_77 ?_
            refine g_iadd C dJ16_numberOfTrailingZeros_78 ?_
            exact g_iret C R (Nat.le_of_ble_eq_true rfl) (Nat.le_of_ble_eq_true rfl) dJ16_numberOfTrailingZeros_79 (fun H hH => ⟨by unfold tzI; simp only [if_pos c9, if_neg c23, if_pos c38, if_neg c52, if_pos c64] <;> rfl, hH⟩)
          · refine g_iinc (x := 21) (v := 23) (lv' := [some (.int (ush (ush (tz0 i) 16) 4)), some (.int 23)]) C dJ16_numberOfTrailingZeros_67 rfl (by decide) (by decide) rfl ?_
            refine g_iload_n C dJ16_numberOfTrailingZeros_70 rfl rfl ?_
            refine g_iconst (v := 2) C dJ16_numberOfTrailingZeros_71 rfl ?_
            refine g_iushr C dJ16_numberOfTrailingZeros_72 ?_
            refine g_istore_n (lv' := [some (.int (ush (ush (ush (tz0 i) 16) 4) 2)), some (.int 23)]) C dJ16_numberOfTrailingZeros_73 rfl (by decide) rfl ?_
            refine g_iload_n C dJ16_numberOfTrailingZeros_74 rfl rfl ?_
            refine g_iload_n C dJ16_numberOfTrailingZeros_75 rfl rfl ?_
            refine g_iconst (v := 1) C dJ16_numberOfTrailingZeros_76 rfl ?_
            refine g_iushr C dJ16_numberOfTrailingZeros_77 ?_
            refine g_iadd C dJ16_numberOfTrailingZeros_78 ?_
            exact g_iret C R (Nat.le_of_ble_eq_true rfl) (Nat.le_of_ble_eq_true rfl) dJ16_numberOfTrailingZeros_79 (fun H hH => ⟨by unfold tzI; simp only [if_pos c9, if_neg c23, if_pos c38, if_neg c52, if_neg c64] <;> rfl, hH⟩)
      · refine g_iinc (x := 17) (v := 25) (lv' := [some (.int (ush (tz0 i) 16)), some (.int 25)]) C dJ16_numberOfTrailingZeros_41 rfl (by decide) (by decide) rfl ?_
        refine g_iload_n C dJ16_numberOfTrailingZeros_44 rfl rfl ?_
        refine g_bipush (v := 8) C dJ16_numberOfTrailingZeros_45 rfl ?_
        refine g_iushr C dJ16_numberOfTrailingZeros_47 ?_
        refine g_istore_n (lv' := [some (.int (ush (ush (tz0 i) 16) 8)), some (.int 25)]) C dJ16_numberOfTrailingZeros_48 rfl (by decide) rfl ?_
        refine g_iload_n C dJ16_numberOfTrailingZeros_49 rfl rfl ?_
        refine g_bipush (v := 16) C dJ16_numberOfTrailingZeros_50 rfl ?_
        refine g_icmp_le 62 C dJ16_numberOfTrailingZeros_52 rfl (fun c52 => ?_) (fun c52 => ?_)
        · refine g_iload_n C dJ16_numberOfTrailingZeros_62 rfl rfl ?_
          refine g_iconst (v := 4) C dJ16_numberOfTrailingZeros_63 rfl ?_
          refine g_icmp_le 74 C dJ16_numberOfTrailingZeros_64 rfl (fun c64 => ?_) (fun c64 => ?_)
          · refine g_iload_n C dJ16_numberOfTrailingZeros_74 rfl rfl ?_
            refine g_iload_n C dJ16_numberOfTrailingZeros_75 rfl rfl ?_
            refine g_iconst (v := 1) C dJ16_numberOfTrailingZeros_76 rfl ?_
            refine g_iushr C dJ16_numberOfTrailingZeros_77 ?_
            refine g_iadd C dJ16_numberOfTrailingZeros_78 ?_
            exact g_iret C R (Nat.le_of_ble_eq_true rfl) (Nat.le_of_ble_eq_true rfl) dJ16_numberOfTrailingZeros_79 (fun H hH => ⟨by unfold tzI; simp only [if_pos c9, if_neg c23, if_neg c38, if_pos c52, if_pos c64] <;> rfl, hH⟩)
          · refine g_iinc (x := 25) (v := 27) (lv' := [some (.int (ush (ush (tz0 i) 16) 8)), some (.int 27)]) C dJ16_numberOfTrailingZeros_67 rfl (by decide) (by decide) rfl ?_
            refine g_iload_n C dJ16_numberOfTrailingZeros_70 rfl rfl ?_
            refine g_iconst (v := 2) C dJ16_numberOfTrailingZeros_71 rfl ?_
            refine g_iushr C dJ16_numberOfTrailingZeros_72 ?_
            refine g_istore_n (lv' := [some (.int (ush (ush (ush (tz0 i) 16) 8) 2)), some (.int 27)]) C dJ16_numberOfTrailingZeros_73 rfl (by decide) rfl ?_
            refine g_iload_n C dJ16_numberOfTrailingZeros_74 rfl rfl ?_
            refine g_iload_n C dJ16_numberOfTrailingZeros_75 rfl rfl ?_
            refine g_iconst (v := 1) C dJ16_numberOfTrailingZeros_76 rfl ?_
            refine g_iushr C dJ16_numberOfTrailingZeros_77 ?_
            refine g_iadd C dJ16_numberOfTrailingZeros_78 ?_
            exact g_iret C R (Nat.le_of_ble_eq_true rfl) (Nat.le_of_ble_eq_true rfl) dJ16_numberOfTrailingZeros_79 (fun H hH => ⟨by unfold tzI; simp only [if_pos c9, if_neg c23, if_neg c38, if_pos c52, if_neg c64] <;> rfl, hH⟩)
        · refine g_iinc (x := 25) (v := 29) (lv' := [some (.int (ush (ush (tz0 i) 16) 8)), some (.int 29)]) C dJ16_numberOfTrailingZeros_55 rfl (by decide) (by decide) rfl ?_
          refine g_iload_n C dJ16_numberOfTrailingZeros_58 rfl rfl ?_
          refine g_iconst (v := 4) C dJ16_numberOfTrailingZeros_59 rfl ?_
          refine g_iushr C dJ16_numberOfTrailingZeros_60 ?_
          refine g_istore_n (lv' := [some (.int (ush (ush (ush (tz0 i) 16) 8) 4)), some (.int 29)]) C dJ16_numberOfTrailingZeros_61 rfl (by decide) rfl ?_
          refine g_iload_n C dJ16_numberOfTrailingZeros_62 rfl rfl ?_
          refine g_iconst (v := 4) C dJ16_numberOfTrailingZeros_63 rfl ?_
          refine g_icmp_le 74 C dJ16_numberOfTrailingZeros_64 rfl (fun c64 => ?_) (fun c64 => ?_)
          · refine g_iload_n C dJ16_numberOfTrailingZeros_74 rfl rfl ?_
            refine g_iload_n C dJ16_numberOfTrailingZeros_75 rfl rfl ?_
            refine g_iconst (v := 1) C dJ16_numberOfTrailingZeros_76 rfl ?_
            refine g_iushr C dJ16_numberOfTrailingZeros_77 ?_
            refine g_iadd C dJ16_numberOfTrailingZeros_78 ?_
            exact g_iret C R (Nat.le_of_ble_eq_true rfl) (Nat.le_of_ble_eq_true rfl) dJ16_numberOfTrailingZeros_79 (fun H hH => ⟨by unfold tzI; simp only [if_pos c9, if_neg c23, if_neg c38, if_neg c52, if_pos c64] <;> rfl, hH⟩)
          · refine g_iinc (x := 29) (v := 31) (lv' := [some (.int (ush (ush (ush (tz0 i) 16) 8) 4)), some (.int 31)]) C dJ16_numberOfTrailingZeros_67 rfl (by decide) (by decide) rfl ?_
            refine g_iload_n C dJ16_numberOfTrailingZeros_70 rfl rfl ?_
            refine g_iconst (v := 2) C dJ16_numberOfTrailingZeros_71 rfl ?_
            refine g_iushr C dJ16_numberOfTrailingZeros_72 ?_
            refine g_istore_n (lv' := [some (.int (ush (ush (ush (ush (tz0 i) 16) 8) 4) 2)), some (.int 31)]) C dJ16_numberOfTrailingZeros_73 rfl (by decide) rfl ?_
            refine g_iload_n C dJ16_numberOfTrailingZeros_74 rfl rfl ?_
            refine g_iload_n C dJ16_numberOfTrailingZeros_75 rfl rfl ?_
            refine g_iconst (v := 1) C dJ16_numberOfTrailingZeros_76 rfl ?_
            refine g_iushr C dJ16_numberOfTrailingZeros_77 ?_
            refine g_iadd C dJ16_numberOfTrailingZeros_78 ?_
            exact g_iret C R (Nat.le_of_ble_eq_true rfl) (Nat.le_of_ble_eq_true rfl) dJ16_numberOfTrailingZeros_79 (fun H hH => ⟨by unfold tzI; simp only [if_pos c9, if_neg c23, if_neg c38, if_neg c52, if_neg c64] <;> rfl, hH⟩)
  · refine g_iload_n C dJ16_numberOfTrailingZeros_12 rfl rfl ?_
    refine g_bipush (v := 32) C dJ16_numberOfTrailingZeros_13 rfl ?_
    refine g_iand C dJ16_numberOfTrailingZeros_15 ?_
    exact g_iret C R (Nat.le_of_ble_eq_true rfl) (Nat.le_of_ble_eq_true rfl) dJ16_numberOfTrailingZeros_16 (fun H hH => ⟨by unfold tzI; simp only [if_neg c9] <;> rfl, hH⟩)
theorem mlt_bc {x : Int32} {n : Nat} (h : mlt x n) (hn : n ≤ 12) : bcI x = nI (pcI x) := by
  have h1 : x.toBitVec.toNat < 4096 := Nat.lt_of_lt_of_le h (Nat.pow_le_pow_right (by decide) hn)
  have e : x = nI x.toBitVec.toNat := by
    apply Int32.toBitVec_inj.mp
    apply BitVec.eq_of_toNat_eq
    show x.toBitVec.toNat = (BitVec.ofNat 32 x.toBitVec.toNat).toNat
    rw [BitVec.toNat_ofNat, Nat.mod_eq_of_lt (by omega)]
  unfold pcI
  rw [e, bcI_N h1]
  rw [← e]
set_option maxRecDepth 100000 in
theorem cc_hcount {l : Launch} {Γ : Gm} {A : Nat → Prop} {ρ : State → Prop} (B : Bc l Γ A ρ) {h : Hp} {a : Nat} {t : Tg} {hv lt wg ge : Int32} (Ho : h a = some (t, .inr (12, [.int hv, .int lt, .int wg, .int ge]))) {n : Nat} (h1 : mlt hv n) (h2 : mlt lt n) (hn : n ≤ 12) (hg : ge = 0 ∨ ge = 1) : CtF l Γ A ρ yX14_count cX14_count 1 (some .int) { frames := 1, cells := 0, slots := 0, locals := 20 } [.ref a] h (some (.int (nI (pcI hv + pcI lt) + ge))) h := by
  refine Ct.of B.1.1 B.1.2 (by decide) [some (.ref a)] (Nat.le_of_ble_eq_true rfl) rfl ?_
  intro E hE C R
  subst hE
  have SC_ := B.2 _ C.r
  refine g_aload_n C dX14_count_0 rfl rfl ?_
  refine c_get 12 0 k_X14 in_X14 (by decide) (fun _ h => h) q962 Ho rfl C dX14_count_1 ?_
  refine h_callS (rest := []) 1 C (cc_bitCount B.1 _ _) (lw_S q1341 q1034 q105 q1035) ⟨⟨by decide, by decide, by decide +kernel⟩, ⟨Nat.le_of_ble_eq_true rfl, Nat.le_of_ble_eq_true rfl⟩, ⟨Nat.le_of_ble_eq_true rfl, Nat.le_of_ble_eq_true rfl⟩⟩ (fun _ h => h) rfl rfl (Nat.le_of_ble_eq_true rfl) dX14_count_4 (h_P ?_)
  refine g_topi (y := nI (pcI hv)) (mlt_bc h1 hn) ?_
  refine g_aload_n C dX14_count_7 rfl rfl ?_
  refine c_get 12 1 k_X14 in_X14 (by decide) (fun _ h => h) q965 Ho rfl C dX14_count_8 ?_
  refine h_callS (rest := [.int (nI (pcI hv))]) 1 C (cc_bitCount B.1 _ _) (lw_S q1341 q1034 q105 q1035) ⟨⟨by decide, by decide, by decide +kernel⟩, ⟨Nat.le_of_ble_eq_true rfl, Nat.le_of_ble_eq_true rfl⟩, ⟨Nat.le_of_ble_eq_true rfl, Nat.le_of_ble_eq_true rfl⟩⟩ (fun _ h => h) rfl rfl (Nat.le_of_ble_eq_true rfl) dX14_count_11 (h_P ?_)
  refine g_topi (y := nI (pcI lt)) (mlt_bc h2 hn) ?_
  refine g_iadd C dX14_count_14 ?_
  refine g_topi (y := nI (pcI hv + pcI lt)) (nI_add (pcI hv) (pcI lt)) ?_
  refine g_aload_n C dX14_count_15 rfl rfl ?_
  refine c_get 12 3 k_X14 in_X14 (by decide) (fun _ h => h) q970 Ho rfl C dX14_count_16 ?_
  refine g_if_eq 26 C dX14_count_19 rfl (fun c19 => ?_) (fun c19 => ?_)
  · refine g_iconst (v := 0) C dX14_count_26 rfl ?_
    refine g_iadd C dX14_count_27 ?_
    exact g_iret C R (Nat.le_of_ble_eq_true rfl) (Nat.le_of_ble_eq_true rfl) dX14_count_28 (fun H hH => ⟨by rw [c19], hH⟩)
  · refine g_iconst (v := 1) C dX14_count_22 rfl ?_
    refine g_goto 27 C dX14_count_23 rfl ?_
    refine g_iadd C dX14_count_27 ?_
    exact g_iret C R (Nat.le_of_ble_eq_true rfl) (Nat.le_of_ble_eq_true rfl) dX14_count_28 (fun H hH => ⟨by rw [hg.resolve_left c19], hH⟩)
set_option maxRecDepth 100000 in
theorem cc_hypothesisCount {l : Launch} {Γ : Gm} {A : Nat → Prop} {ρ : State → Prop} (B : Bc l Γ A ρ) {h : Hp} {F : Nat → Int32} {X : Nat → Nat → Int32} {nt ns nm ne nv nu ln : Nat} (J : Iv F X nt ns nm ne nv nu ln) {x : Nat} (R_ : RepC Γ F X nt ns nm ne nv nu h x) (set : Int32) : CtF l Γ A ρ yX1_hypothesisCount cX1_hypothesisCount 2 (some .int) { frames := 3, cells := 0, slots := 0, locals := 64 } [.ref x, .int set] h (some (.int (atI set ne (coN (X 1))))) h := by
  refine Ct.of B.1.1 B.1.2 (by decide) [some (.ref x), some (.int set)] (Nat.le_of_ble_eq_true rfl) rfl ?_
  intro E hE C R
  subst hE
  have SC_ := B.2 _ C.r
  have ht_ := J.lt
  have hs_ := J.ls
  have hm_ := J.lm
  have he_ := J.le
  have hu_ := J.lu
  have hl_ := J.ll
  have hv_ := J.lv
  obtain ⟨bu, mk, en, hi, sn, so, b7, b8, hs, fsn, fso, Rx, Rb, RK, RE, RH, RS, RA, RO⟩ := id R_
  obtain ⟨sl, wl, ma, te, fm, ft, ss, wq, Km, Kma, Kfm, Kte, Kft, Ksl, Kss, Kwl, Kws⟩ := id RK
  obtain ⟨vl, el, vs, es, Ee, E0, Evl, Eel, Evs, Ees⟩ := id RE
  refine g_aload_n C dX1_hypothesisCount_0 rfl rfl ?_
  refine g_iload_n C dX1_hypothesisCount_1 rfl rfl ?_
  refine h_callV (rest := []) 1 C (cc_isSet B J R_ _) (lw_V q1322 q1324 qs36 q86 q1325) ⟨⟨by decide, by decide, by decide +kernel⟩, ⟨Nat.le_of_ble_eq_true rfl, Nat.le_of_ble_eq_true rfl⟩, ⟨Nat.le_of_ble_eq_true rfl, Nat.le_of_ble_eq_true rfl⟩⟩ (fun _ h => h) (HP.recv C Rx k_X1) rfl rfl (Nat.le_of_ble_eq_true rfl) dX1_hypothesisCount_2 (h_F ?_)
  refine g_if_eq 28 C dX1_hypothesisCount_5 rfl (fun c5 => ?_) (fun c5 => ?_)
  · refine g_iconst (v := (-1)) C dX1_hypothesisCount_28 rfl ?_
    exact g_iret C R (Nat.le_of_ble_eq_true rfl) (Nat.le_of_ble_eq_true rfl) dX1_hypothesisCount_29 (fun H hH => ⟨by rw [atI_out c5], hH⟩)
  · obtain ⟨j_set, hj_set, rfl⟩ := ixI_in (by omega) c5
    refine g_aload_n C dX1_hypothesisCount_8 rfl rfl ?_
    refine c_get 0 4 k_X1 in_X1 (by decide) (fun _ h => h) q540 Rx rfl C dX1_hypothesisCount_9 ?_
    refine c_getN 2 1 k_X3 in_X3 (by decide) (fun _ h => h) q524 SC_ Ee rfl C dX1_hypothesisCount_12 ?_
    refine g_iload_n C dX1_hypothesisCount_15 rfl rfl ?_
    refine h_callV (rest := []) 1 C (cc_get B Eel j_set (by omega)) (lw_V q940 q941 q942 q90 q943) ⟨⟨by decide, by decide, by decide +kernel⟩, ⟨Nat.le_of_ble_eq_true rfl, Nat.le_of_ble_eq_true rfl⟩, ⟨Nat.le_of_ble_eq_true rfl, Nat.le_of_ble_eq_true rfl⟩⟩ (fun _ h => h) (Eel.recv C) rfl rfl (Nat.le_of_ble_eq_true rfl) dX1_hypothesisCount_16 (h_F ?_)
    refine c_castS (Ees j_set (by omega)) k_X14 q956 C dX1_hypothesisCount_19 ?_
    refine h_callV (rest := []) 0 C (cc_hcount B (Ees j_set (by omega)) (J.wt hj_set).2.2.2.1 (J.wt hj_set).2.2.2.2.1 (J.wt hj_set).2.1 (J.ge01 hj_set)) (lw_V q1337 q1338 q1339 q119 q1340) ⟨⟨by decide, by decide, by decide +kernel⟩, ⟨Nat.le_of_ble_eq_true rfl, Nat.le_of_ble_eq_true rfl⟩, ⟨Nat.le_of_ble_eq_true rfl, Nat.le_of_ble_eq_true rfl⟩⟩ (fun _ h => h) (HP.recv C (Ees j_set (by omega)) k_X14) rfl rfl (Nat.le_of_ble_eq_true rfl) dX1_hypothesisCount_22 (h_F ?_)
    refine g_goto 29 C dX1_hypothesisCount_25 rfl ?_
    exact g_iret C R (Nat.le_of_ble_eq_true rfl) (Nat.le_of_ble_eq_true rfl) dX1_hypothesisCount_29 (fun H hH => ⟨by rw [atI_in hj_set (by omega)]; rfl, hH⟩)
