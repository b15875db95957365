/-! the sets within a set, in rising order -/
theorem land2 (a b x y : Nat) (hx : x < 2) (hy : y < 2) : (2 * a + x) &&& (2 * b + y) = 2 * (a &&& b) + x * y := by
  refine Nat.eq_of_testBit_eq fun i => ?_
  have hxy : x * y < 2 := by
    rcases (show x = 0 ∨ x = 1 by omega) with rfl | rfl <;> rcases (show y = 0 ∨ y = 1 by omega) with rfl | rfl <;> decide
  cases i with
  | zero =>
    rw [Nat.testBit_and, Nat.testBit_zero, Nat.testBit_zero, Nat.testBit_zero]
    rcases (show x = 0 ∨ x = 1 by omega) with rfl | rfl <;> rcases (show y = 0 ∨ y = 1 by omega) with rfl | rfl <;> simp <;> omega
  | succ i =>
    rw [Nat.testBit_and, Nat.testBit_succ, Nat.testBit_succ, Nat.testBit_succ, show (2 * a + x) / 2 = a by omega, show (2 * b + y) / 2 = b by omega, show (2 * (a &&& b) + x * y) / 2 = a &&& b by omega, Nat.testBit_and]
/-- a set within o, halved -/
theorem sub_half {o r : Nat} (h : r &&& o = r) : (r / 2) &&& (o / 2) = r / 2 ∧ r % 2 ≤ o % 2 := by
  have e := land2 (r / 2) (o / 2) (r % 2) (o % 2) (by omega) (by omega)
  rw [show 2 * (r / 2) + r % 2 = r by omega, show 2 * (o / 2) + o % 2 = o by omega, h] at e
  have hxy : r % 2 * (o % 2) < 2 := by
    rcases (show r % 2 = 0 ∨ r % 2 = 1 by omega) with q | q <;> rcases (show o % 2 = 0 ∨ o % 2 = 1 by omega) with p | p <;> rw [q, p] <;> decide
  refine ⟨by omega, ?_⟩
  rcases (show r % 2 = 0 ∨ r % 2 = 1 by omega) with q | q <;> rcases (show o % 2 = 0 ∨ o % 2 = 1 by omega) with p | p <;> rw [q, p] at e <;> omega
theorem sub_comp : ∀ (W o r : Nat), o < 2 ^ W → r &&& o = r → (2 ^ W - 1 - (o - r)) &&& o = r := by
  intro W
  induction W with
  | zero => intro o r ho h; have : o = 0 := by omega
            subst this; rw [Nat.and_zero] at h ⊢; exact h
  | succ W ih =>
    intro o r ho h
    rw [Nat.pow_succ] at ho ⊢
    obtain ⟨h1, h2⟩ := sub_half h
    have ihh := ih (o / 2) (r / 2) (by omega) h1
    have hle : r / 2 ≤ o / 2 := by rw [← h1]; exact Nat.and_le_right
    rcases (show o % 2 = 0 ∨ o % 2 = 1 by omega) with q | q <;> rcases (show r % 2 = 0 ∨ r % 2 = 1 by omega) with p | p
    · rw [show 2 ^ W * 2 - 1 - (o - r) = 2 * (2 ^ W - 1 - (o / 2 - r / 2)) + 1 by omega]
      conv => lhs; rw [show o = 2 * (o / 2) + 0 by omega]
      rw [show (2 * (o / 2) + 0) / 2 = o / 2 by omega, land2 _ _ _ _ (by omega) (by omega), ihh]; omega
    · omega
    · rw [show 2 ^ W * 2 - 1 - (o - r) = 2 * (2 ^ W - 1 - (o / 2 - r / 2)) + 0 by omega]
      conv => lhs; rw [show o = 2 * (o / 2) + 1 by omega]
      rw [show (2 * (o / 2) + 1) / 2 = o / 2 by omega, land2 _ _ _ _ (by omega) (by omega), ihh]; omega
    · rw [show 2 ^ W * 2 - 1 - (o - r) = 2 * (2 ^ W - 1 - (o / 2 - r / 2)) + 1 by omega]
      conv => lhs; rw [show o = 2 * (o / 2) + 1 by omega]
      rw [show (2 * (o / 2) + 1) / 2 = o / 2 by omega, land2 _ _ _ _ (by omega) (by omega), ihh]; omega
/-- the next set within o behind r -/
theorem nxt_spec : ∀ (W o r : Nat), o < 2 ^ W → r &&& o = r → r < o → r < (2 ^ W + r - o) &&& o ∧ ∀ t, t &&& o = t → r < t → (2 ^ W + r - o) &&& o ≤ t := by
  intro W
  induction W with
  | zero => intro o r ho h hr; omega
  | succ W ih =>
    intro o r ho h hr
    rw [Nat.pow_succ] at ho ⊢
    obtain ⟨h1, h2⟩ := sub_half h
    have hle : r / 2 ≤ o / 2 := by rw [← h1]; exact Nat.and_le_right
    by_cases c : r % 2 = o % 2
    · obtain ⟨g1, g2⟩ := ih (o / 2) (r / 2) (by omega) h1 (by omega)
      have e : (2 ^ W * 2 + r - o) &&& o = 2 * ((2 ^ W + r / 2 - o / 2) &&& (o / 2)) := by
        rw [show 2 ^ W * 2 + r - o = 2 * (2 ^ W + r / 2 - o / 2) + 0 by omega]
        conv => lhs; rw [show o = 2 * (o / 2) + o % 2 by omega]
        rw [show (2 * (o / 2) + o % 2) / 2 = o / 2 by omega, land2 _ _ _ _ (by omega) (by omega)]; omega
      rw [e]
      refine ⟨by omega, fun t ht hrt => ?_⟩
      obtain ⟨t1, t2⟩ := sub_half ht
      have := g2 (t / 2) t1 (by omega)
      omega
    · have q : o % 2 = 1 := by omega
      have p : r % 2 = 0 := by omega
      have e : (2 ^ W * 2 + r - o) &&& o = r + 1 := by
        have k := sub_comp W (o / 2) (r / 2) (by omega) h1
        rw [show 2 ^ W * 2 + r - o = 2 * (2 ^ W - 1 - (o / 2 - r / 2)) + 1 by omega]
        conv => lhs; rw [show o = 2 * (o / 2) + 1 by omega]
        rw [show (2 * (o / 2) + 1) / 2 = o / 2 by omega, land2 _ _ _ _ (by omega) (by omega), k]; omega
      rw [e]
      exact ⟨by omega, fun t ht hrt => hrt⟩
/-- .. as the machine has it -/
theorem nxt_I {o r : Nat} (ho : o < 2 ^ 31) (hr : r ≤ o) : (nI r - nI o) &&& nI o = nI (if r = o then 0 else (2 ^ 32 + r - o) &&& o) := by
  apply Int32.toBitVec_inj.mp
  apply BitVec.eq_of_toNat_eq
  rw [Int32.toBitVec_and, BitVec.toNat_and, Int32.toBitVec_sub, BitVec.toNat_sub, pk_tn (by omega), pk_tn (by omega)]
  by_cases c : r = o
  · rw [if_pos c, c, show 2 ^ 32 - o + o = 2 ^ 32 by omega, Nat.mod_self, Nat.zero_and]; rfl
  · rw [if_neg c, show 2 ^ 32 - o + r = 2 ^ 32 + r - o by omega, Nat.mod_eq_of_lt (by omega), pk_tn (Nat.lt_of_le_of_lt Nat.and_le_right (by omega))]
theorem first_I {o : Nat} (ho : o < 2 ^ 31) : nI o &&& -nI o = nI (if o = 0 then 0 else (2 ^ 32 + 0 - o) &&& o) := by
  have h := nxt_I (r := 0) ho (Nat.zero_le _)
  have e : nI 0 - nI o = -nI o := by
    rw [show nI 0 = 0 from rfl]; exact Int32.zero_sub _
  rw [e, Int32.and_comm] at h
  rw [h]
  by_cases c : o = 0
  · rw [if_pos c, if_pos c.symm]
  · rw [if_neg c, if_neg (fun z => c z.symm)]
/-- the complement within w bits -/
theorem comp_I {w L : Nat} (hw : w ≤ 30) (hL : L < 2 ^ w) : (nI (2 ^ w) - 1) &&& (nI L ^^^ (-1)) = nI (2 ^ w - 1 - L) := by
  have hp : 2 ^ w ≤ 2 ^ 30 := Nat.pow_le_pow_right (by decide) hw
  have hpos : 0 < 2 ^ w := Nat.two_pow_pos w
  have e1 : nI (2 ^ w) - 1 = nI (2 ^ w - 1) := pk_sub (a := 2 ^ w) (b := 1) (by omega)
  rw [e1]
  apply Int32.toBitVec_inj.mp
  apply BitVec.eq_of_toNat_eq
  rw [Int32.toBitVec_and, BitVec.toNat_and, pk_tn (by omega), pk_tn (by omega)]
  refine Nat.eq_of_testBit_eq fun i => ?_
  rw [Nat.testBit_and, Nat.testBit_two_pow_sub_one, show 2 ^ w - 1 - L = 2 ^ w - (L + 1) by omega, Nat.testBit_two_pow_sub_succ hL]
  by_cases c : i < w
  · simp only [c, decide_true, Bool.true_and]
    rw [BitVec.testBit_toNat, Int32.toBitVec_xor, BitVec.getLsbD_xor]
    have h1 : (-1 : Int32).toBitVec.getLsbD i = true := by
      have : ∀ i, i < 32 → (-1 : Int32).toBitVec.getLsbD i = true := by decide
      exact this i (by omega)
    have h2 : (nI L).toBitVec.getLsbD i = L.testBit i := by rw [← BitVec.testBit_toNat, pk_tn (by omega)]
    rw [h1, h2, Bool.xor_true]
  · simp [c]
/-- r lies within the complement of L -/
theorem comp_sub {w L r : Nat} (hL : L < 2 ^ w) : r &&& (2 ^ w - 1 - L) = r ↔ (r < 2 ^ w ∧ r &&& L = 0) := by
  constructor
  · intro h
    refine ⟨?_, ?_⟩
    · rw [← h]; exact Nat.lt_of_le_of_lt Nat.and_le_right (by omega)
    · refine Nat.eq_of_testBit_eq fun i => ?_
      have e := congrArg (fun z => z.testBit i) h
      simp only [Nat.testBit_and, show 2 ^ w - 1 - L = 2 ^ w - (L + 1) by omega, Nat.testBit_two_pow_sub_succ hL] at e
      rw [Nat.testBit_and, Nat.zero_testBit]
      cases hr : r.testBit i
      · rfl
      · rw [hr] at e
        cases hl : L.testBit i
        · rfl
        · rw [hl] at e; simp at e
  · rintro ⟨h1, h2⟩
    refine Nat.eq_of_testBit_eq fun i => ?_
    rw [Nat.testBit_and, show 2 ^ w - 1 - L = 2 ^ w - (L + 1) by omega, Nat.testBit_two_pow_sub_succ hL]
    cases hr : r.testBit i
    · rfl
    · have hi : i < w := by
        rcases Nat.lt_or_ge i w with c | c
        · exact c
        · rw [Nat.testBit_lt_two_pow (Nat.lt_of_lt_of_le h1 (Nat.pow_le_pow_right (by decide) c))] at hr; cases hr
      have e := congrArg (fun z => z.testBit i) h2
      simp only [Nat.testBit_and, Nat.zero_testBit, hr, Bool.true_and] at e
      simp [hi, e]
/-- the first place with a property; n if there is none -/
def fstN (p : Nat → Bool) : Nat → Nat
  | 0 => 0
  | n + 1 => if fstN p n < n then fstN p n else if p n = true then n else n + 1
theorem fstN_le (p : Nat → Bool) (n : Nat) : fstN p n ≤ n := by
  induction n with
  | zero => exact Nat.le_refl _
  | succ n ih => unfold fstN; split
                 · omega
                 · split <;> omega
theorem fstN_none {p : Nat → Bool} {n : Nat} (h : ∀ j, j < n → p j = false) : fstN p n = n := by
  induction n with
  | zero => rfl
  | succ n ih =>
    unfold fstN
    rw [ih (fun j hj => h j (by omega)), if_neg (by omega), h n (by omega), if_neg (by decide)]
theorem fstN_some {p : Nat → Bool} {n m : Nat} (hm : m < n) (hp : p m = true) (h : ∀ j, j < m → p j = false) : fstN p n = m := by
  induction n with
  | zero => omega
  | succ n ih =>
    unfold fstN
    by_cases c : m < n
    · rw [ih c, if_pos c]
    · have e : m = n := by omega
      subst e
      rw [fstN_none h, if_neg (by omega), if_pos hp]
/-- the weighing left L, right r of k weights each is one of the best -/
def bq (X : Nat → Nat → Int32) (e k L r : Nat) : Bool :=
  decide (ndE X e < 99) && (decide (1 ≤ k) && (decide (L < 2 ^ wtE X e) && (decide (pcN L = k) && (decide (1 ≤ r) && (decide (r < 2 ^ wtE X e) && (decide (r &&& L = 0) && (decide (pcN r = k) && decide (bhE X e (nI L) (nI r) + 1 = ndE X e))))))))
def bk (X : Nat → Nat → Int32) (e m : Nat) : Bool := bq X e (m / 16777216) (m / 4096 % 4096) (m % 4096)
def bsK (X : Nat → Nat → Int32) (e : Nat) : Nat := fstN (bk X e) 117440512
def blI (X : Nat → Nat → Int32) (e : Nat) : Int32 := if bsK X e < 117440512 then nI (bsK X e / 4096 % 4096) else -2
def brI (X : Nat → Nat → Int32) (e : Nat) : Int32 := if bsK X e < 117440512 then nI (bsK X e % 4096) else -2
theorem bk_key {X : Nat → Nat → Int32} {e k L r : Nat} (hL : L < 4096) (hr : r < 4096) : bk X e (16777216 * k + 4096 * L + r) = bq X e k L r := by
  unfold bk
  rw [show (16777216 * k + 4096 * L + r) / 16777216 = k by omega, show (16777216 * k + 4096 * L + r) / 4096 % 4096 = L by omega, show (16777216 * k + 4096 * L + r) % 4096 = r by omega]
theorem bq_out {X : Nat → Nat → Int32} {e k L r : Nat} (h : bq X e k L r = true) : ndE X e < 99 ∧ 1 ≤ k ∧ L < 2 ^ wtE X e ∧ pcN L = k ∧ 1 ≤ r ∧ r < 2 ^ wtE X e ∧ r &&& L = 0 ∧ pcN r = k ∧ bhE X e (nI L) (nI r) + 1 = ndE X e := by
  unfold bq at h
  simp only [Bool.and_eq_true, decide_eq_true_eq] at h
  exact h
theorem bq_in {X : Nat → Nat → Int32} {e k L r : Nat} (h : ndE X e < 99 ∧ 1 ≤ k ∧ L < 2 ^ wtE X e ∧ pcN L = k ∧ 1 ≤ r ∧ r < 2 ^ wtE X e ∧ r &&& L = 0 ∧ pcN r = k ∧ bhE X e (nI L) (nI r) + 1 = ndE X e) : bq X e k L r = true := by
  unfold bq
  simp only [Bool.and_eq_true, decide_eq_true_eq]
  exact h
