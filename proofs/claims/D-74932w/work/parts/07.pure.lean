/-! plain words for what the methods answer -/
def wi (v lo hi : Int64) : Int32 := if lo ≤ v ∧ v ≤ hi then 1 else 0
/-- s is one of 0 .. n-1 -/
def ixI (s : Int32) (n : Nat) : Int32 := if 0 ≤ s.toInt ∧ s.toInt < (n : Int) then 1 else 0
def atI (s : Int32) (n : Nat) (f : Nat → Int32) : Int32 := if 0 ≤ s.toInt ∧ s.toInt < (n : Int) then f s.toNatClampNeg else -1
theorem wi_nar (v lo hi : Int64) : narrow .boolean (.int (wi v lo hi)) = .int (wi v lo hi) := by
  unfold wi; split <;> rfl
theorem ixI_nar (s : Int32) (n : Nat) : narrow .boolean (.int (ixI s n)) = .int (ixI s n) := by
  unfold ixI; split <;> rfl
theorem nI_sub1 {n : Nat} (hn : n < 2 ^ 31) : (nI n - 1).toInt = (n : Int) - 1 := by
  have h := nI_toInt hn
  rw [fb_subI] <;> (rw [h]; rw [show (1 : Int32).toInt = 1 from rfl]; try omega)
theorem wi_ix {s : Int32} {n : Nat} (hn : n < 2 ^ 31) : wi s.toInt64 0 (nI n - 1).toInt64 = ixI s n := by
  unfold wi ixI
  have e : ((0 : Int64) ≤ s.toInt64 ∧ s.toInt64 ≤ (nI n - 1).toInt64) ↔ (0 ≤ s.toInt ∧ s.toInt < (n : Int)) := by
    rw [fa_le64, fa_le64, Int32.toInt_toInt64, Int32.toInt_toInt64, nI_sub1 hn, show (0 : Int64).toInt = 0 from rfl]
    omega
  by_cases c : 0 ≤ s.toInt ∧ s.toInt < (n : Int)
  · rw [if_pos (e.mpr c), if_pos c]
  · rw [if_neg (fun z => c (e.mp z)), if_neg c]
theorem wi_len {s : Int32} {n : Nat} (hn : n < 2 ^ 31) : wi s.toInt64 0 (nI n).toInt64 = ixI s (n + 1) := by
  unfold wi ixI
  have e : ((0 : Int64) ≤ s.toInt64 ∧ s.toInt64 ≤ (nI n).toInt64) ↔ (0 ≤ s.toInt ∧ s.toInt < ((n + 1 : Nat) : Int)) := by
    rw [fa_le64, fa_le64, Int32.toInt_toInt64, Int32.toInt_toInt64, nI_toInt hn, show (0 : Int64).toInt = 0 from rfl]
    omega
  by_cases c : 0 ≤ s.toInt ∧ s.toInt < ((n + 1 : Nat) : Int)
  · rw [if_pos (e.mpr c), if_pos c]
  · rw [if_neg (fun z => c (e.mp z)), if_neg c]
theorem wi_lit {s : Int32} {n : Nat} (hn : n < 2 ^ 31) : wi s.toInt64 0 (lN n) = ixI s (n + 1) := by
  rw [← nI_l hn]; exact wi_len hn
/-- v is one of lo .. hi -/
def rnI (v lo hi : Int32) : Int32 := if lo ≤ v ∧ v ≤ hi then 1 else 0
theorem rnI_nar (v lo hi : Int32) : narrow .boolean (.int (rnI v lo hi)) = .int (rnI v lo hi) := by
  unfold rnI; split <;> rfl
theorem wi_rn (v lo hi : Int32) : wi v.toInt64 lo.toInt64 hi.toInt64 = rnI v lo hi := by
  unfold wi rnI
  by_cases c : lo ≤ v ∧ v ≤ hi
  · rw [if_pos c, if_pos ⟨(fa_wide_le _ _).mpr c.1, (fa_wide_le _ _).mpr c.2⟩]
  · rw [if_neg c, if_neg (fun z => c ⟨(fa_wide_le _ _).mp z.1, (fa_wide_le _ _).mp z.2⟩)]
theorem ixI_out {s : Int32} {n : Nat} (h : ixI s n = 0) : ¬ (0 ≤ s.toInt ∧ s.toInt < (n : Int)) := by
  intro c
  unfold ixI at h
  rw [if_pos c] at h
  exact absurd h (by decide)
theorem ixI_in {s : Int32} {n : Nat} (hn : n < 2 ^ 31) (h : ¬ ixI s n = 0) : ∃ j, j < n ∧ s = nI j := by
  unfold ixI at h
  by_cases c : 0 ≤ s.toInt ∧ s.toInt < (n : Int)
  · exact vp_in_of (vp_in_iff.mpr c) hn
  · rw [if_neg c] at h
    exact absurd rfl h
theorem ixI_nI {j n : Nat} (hj : j < n) (hn : n < 2 ^ 31) : ixI (nI j) n = 1 := by
  unfold ixI
  rw [nI_toInt (by omega), if_pos (by omega)]
theorem atI_out {s : Int32} {n : Nat} {f : Nat → Int32} (h : ixI s n = 0) : atI s n f = -1 := if_neg (ixI_out h)
theorem atI_in {j n : Nat} {f : Nat → Int32} (hj : j < n) (hn : n < 2 ^ 31) : atI (nI j) n f = f j := by
  unfold atI
  rw [nI_toInt (by omega), if_pos (by omega), nI_clamp (by omega)]
/-- the sum of the masses of a set, the first k of them -/
def loadN (f : Nat → Int32) (set : Int32) : Nat → Int32
  | 0 => 0
  | k + 1 => loadN f set k + (if (set >>> (nI k &&& 31)) &&& 1 = 1 then f k else 0)
def szI (v : Int32) : Int32 := if v < 0 then -v else v
def mxI (a b : Int32) : Int32 := if b < a then a else b
/-- a stretch of an array copied into another -/
def cpN (f g : Nat → Int32) (sp dp : Nat) : Nat → Nat → Int32
  | 0 => g
  | k + 1 => upd (cpN f g sp dp k) (dp + k) (f (sp + k))
theorem cpN_eq (f g : Nat → Int32) (sp dp n : Nat) : cpN f g sp dp n = va_cpy f g sp dp n := by
  induction n with
  | zero => funext j; unfold va_cpy; rw [if_neg (by omega)]; rfl
  | succ n ih =>
    funext j
    show upd (cpN f g sp dp n) (dp + n) (f (sp + n)) j = _
    rw [ih]
    unfold upd va_cpy
    by_cases c : j = dp + n
    · rw [if_pos c, if_pos (by omega), show sp + n = sp + (j - dp) by omega]
    · rw [if_neg c]
      by_cases c2 : dp ≤ j ∧ j < dp + n
      · rw [if_pos c2, if_pos (by omega)]
      · rw [if_neg c2, if_neg (by omega)]
/-! how many bits -/
def pcN (n : Nat) : Nat := if n = 0 then 0 else n % 2 + pcN (n / 2)
theorem pcN_0 : pcN 0 = 0 := by rw [pcN]; rfl
theorem pcN_step (n : Nat) : pcN n = n % 2 + pcN (n / 2) := by
  by_cases h : n = 0
  · subst h; rw [show 0 / 2 = 0 from rfl, pcN_0]
  · rw [pcN, if_neg h]
theorem pcN_even (m : Nat) : pcN (2 * m) = pcN m := by
  rw [pcN_step, show 2 * m % 2 = 0 by omega, show 2 * m / 2 = m by omega, Nat.zero_add]
theorem pcN_odd (m : Nat) : pcN (2 * m + 1) = pcN m + 1 := by
  rw [pcN_step, show (2 * m + 1) % 2 = 1 by omega, show (2 * m + 1) / 2 = m by omega, Nat.add_comm]
theorem pcN_drop : ∀ n : Nat, 0 < n → pcN (n &&& (n - 1)) + 1 = pcN n := by
  intro n
  induction n using Nat.strongRecOn with
  | ind n ih =>
    intro h
    rcases Nat.mod_two_eq_zero_or_one n with e | e
    · have hm : n = 2 * (n / 2) := by omega
      have h2 : n &&& (n - 1) = 2 * ((n / 2) &&& (n / 2 - 1)) := by
        refine Nat.eq_of_testBit_eq fun i => ?_
        cases i with
        | zero => rw [Nat.testBit_and]; simp [Nat.testBit_zero]; omega
        | succ i =>
          rw [Nat.testBit_and, Nat.testBit_succ, Nat.testBit_succ, Nat.testBit_succ, show 2 * ((n / 2) &&& (n / 2 - 1)) / 2 = (n / 2) &&& (n / 2 - 1) by omega, Nat.testBit_and, show (n - 1) / 2 = n / 2 - 1 by omega]
      rw [h2, pcN_even, ih (n / 2) (by omega) (by omega)]
      conv => rhs; rw [hm]
      rw [pcN_even]
    · have hm : n = 2 * (n / 2) + 1 := by omega
      have h2 : n &&& (n - 1) = 2 * (n / 2) := by
        refine Nat.eq_of_testBit_eq fun i => ?_
        cases i with
        | zero => rw [Nat.testBit_and]; simp [Nat.testBit_zero]; omega
        | succ i =>
          rw [Nat.testBit_and, Nat.testBit_succ, Nat.testBit_succ, Nat.testBit_succ, show (n - 1) / 2 = n / 2 by omega, show 2 * (n / 2) / 2 = n / 2 by omega, Bool.and_self]
      rw [h2, pcN_even]
      conv => rhs; rw [hm]
      rw [pcN_odd]
theorem pcN_le : ∀ (k n : Nat), n < 2 ^ k → pcN n ≤ k := by
  intro k
  induction k with
  | zero => intro n h; rw [show n = 0 by omega, pcN_0]; omega
  | succ k ih =>
    intro n h
    rw [pcN_step]
    have := ih (n / 2) (by rw [Nat.pow_succ] at h; omega)
    omega
/-- .. of an int -/
def pcI (x : Int32) : Nat := pcN x.toBitVec.toNat
theorem pcI_le (x : Int32) : pcI x ≤ 32 := pcN_le 32 _ x.toBitVec.isLt
theorem pcI_0 : pcI 0 = 0 := pcN_0
theorem pcI_nI {n : Nat} (h : n < 2 ^ 32) : pcI (nI n) = pcN n := by unfold pcI; rw [pk_tn h]
theorem pcI_drop {x : Int32} (h : ¬ x = 0) : pcI (x &&& (x - 1)) + 1 = pcI x := by
  have h0 : 0 < x.toBitVec.toNat := by
    rcases Nat.eq_zero_or_pos x.toBitVec.toNat with e | e
    · exact absurd (Int32.toBitVec_inj.mp (BitVec.eq_of_toNat_eq (by rw [e]; rfl))) h
    · exact e
  have e : (x &&& (x - 1)).toBitVec.toNat = x.toBitVec.toNat &&& (x.toBitVec.toNat - 1) := by
    rw [Int32.toBitVec_and, BitVec.toNat_and, Int32.toBitVec_sub, BitVec.toNat_sub]
    have hl := x.toBitVec.isLt
    rw [show (1 : Int32).toBitVec.toNat = 1 from rfl, show 2 ^ 32 - 1 + x.toBitVec.toNat = 2 ^ 32 + (x.toBitVec.toNat - 1) by omega, Nat.add_mod_left, Nat.mod_eq_of_lt (by omega)]
  unfold pcI
  rw [e]
  exact pcN_drop _ h0
