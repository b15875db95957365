/-! masks of n bits -/
def mlt (x : Int32) (n : Nat) : Prop := x.toBitVec.toNat < 2 ^ n
theorem mlt_and {x : Int32} {n : Nat} (h : mlt x n) (y : Int32) : mlt (x &&& y) n := by
  unfold mlt at *
  rw [Int32.toBitVec_and, BitVec.toNat_and]
  exact Nat.lt_of_le_of_lt Nat.and_le_left h
theorem mlt_nI {a n : Nat} (h : a < 2 ^ n) (h2 : a < 2 ^ 32) : mlt (nI a) n := by
  unfold mlt; rw [pk_tn h2]; exact h
theorem pcI_mlt {x : Int32} {n : Nat} (h : mlt x n) : pcI x ≤ n := pcN_le n _ h
theorem pcN_disj : ∀ (n a b : Nat), a < 2 ^ n → b < 2 ^ n → a &&& b = 0 → pcN a + pcN b ≤ n := by
  intro n
  induction n with
  | zero => intro a b ha hb _; rw [show a = 0 by omega, show b = 0 by omega, pcN_0]; omega
  | succ n ih =>
    intro a b ha hb h
    rw [Nat.pow_succ] at ha hb
    have h2 : (a / 2) &&& (b / 2) = 0 := by
      refine Nat.eq_of_testBit_eq fun i => ?_
      have := congrArg (fun z => z.testBit (i + 1)) h
      simp only [Nat.testBit_and, Nat.zero_testBit] at this ⊢
      rw [Nat.testBit_succ, Nat.testBit_succ] at this
      exact this
    have h3 : ¬ (a % 2 = 1 ∧ b % 2 = 1) := by
      rintro ⟨e1, e2⟩
      have := congrArg (fun z => z.testBit 0) h
      simp [Nat.testBit_zero, e1, e2] at this
    have := ih (a / 2) (b / 2) (by omega) (by omega) h2
    rw [pcN_step a, pcN_step b]
    omega
theorem pcI_disj {x y : Int32} {n : Nat} (hx : mlt x n) (hy : mlt y n) (h : x &&& y = 0) : pcI x + pcI y ≤ n := by
  refine pcN_disj n _ _ hx hy ?_
  rw [← BitVec.toNat_and, ← Int32.toBitVec_and, h]
  rfl
theorem HyB_m {wt r : Nat → Int32} {e : Nat} (h : HyB wt r e) : ∃ w g : Nat, wt e = nI w ∧ w ≤ 12 ∧ mlt (r (661 + e)) w ∧ mlt (r (665 + e)) w ∧ r (669 + e) = nI g ∧ g ≤ 1 := by
  obtain ⟨w, a, b, g, q, ⟨ew, hw⟩, ha, hb, hg, -, ea, eb, eg, -⟩ := h
  have hp := pow12 hw
  exact ⟨w, g, ew, hw, by rw [ea]; exact mlt_nI ha (by omega), by rw [eb]; exact mlt_nI hb (by omega), eg, hg⟩
/-- a set's weights; whether all can be genuine; what is needed for it -/
def wtE (X : Nat → Nat → Int32) (e : Nat) : Nat := (X 11 e).toNatClampNeg
def geE (X : Nat → Nat → Int32) (e : Nat) : Nat := (X 1 (669 + e)).toNatClampNeg
def ndE (X : Nat → Nat → Int32) (e : Nat) : Nat := neN (wtE X e) (X 1 (661 + e)) (X 1 (665 + e)) (geE X e)
theorem ndE_le {X : Nat → Nat → Int32} {e : Nat} (h : geE X e ≤ 1) : ndE X e ≤ 99 := neN_le _ _ _ h
section IvW
variable {F : Nat → Int32} {X : Nat → Nat → Int32} {nt ns nm ne nv nu ln : Nat}
theorem Iv.wt (J : Iv F X nt ns nm ne nv nu ln) {e : Nat} (he : e < ne) : 2 ≤ wtE X e ∧ wtE X e ≤ 12 ∧ X 11 e = nI (wtE X e) ∧ mlt (X 1 (661 + e)) (wtE X e) ∧ mlt (X 1 (665 + e)) (wtE X e) ∧ X 1 (669 + e) = nI (geE X e) ∧ geE X e ≤ 1 := by
  obtain ⟨w, h2, h12, ew⟩ := J.mk.2.2.2.2.2.1 e he
  obtain ⟨w', g, ew', hw', hm, hl, eg, hg⟩ := HyB_m (J.hy he)
  have e1 : wtE X e = w := by unfold wtE; rw [ew, nI_clamp (by omega)]
  have e2 : geE X e = g := by unfold geE; rw [eg, nI_clamp (by omega)]
  have e3 : w' = w := (nI_eq (by omega) (by omega)).mp (ew'.symm.trans ew)
  subst e3
  rw [e1, e2]
  exact ⟨h2, h12, ew, hm, hl, eg, hg⟩
end IvW
def wnI (X : Nat → Nat → Int32) (e : Nat) : Int32 := if ndE X e < 99 then nI (ndE X e) else -2
/-- what is needed behind a weighing at the worst -/
def bhN (w : Nat) (hm lm : Int32) (g : Nat) (left right : Int32) : Nat :=
  if pcI (hm &&& ((left ||| right) ^^^ (-1))) + pcI (lm &&& ((left ||| right) ^^^ (-1))) + g = pcI hm + pcI lm + g then 99
  else if pcI (hm &&& left) + pcI (lm &&& right) = pcI hm + pcI lm + g then 99
  else if pcI (hm &&& right) + pcI (lm &&& left) = pcI hm + pcI lm + g then 99
  else max (neN w (hm &&& ((left ||| right) ^^^ (-1))) (lm &&& ((left ||| right) ^^^ (-1))) g) (max (neN w (hm &&& left) (lm &&& right) 0) (neN w (hm &&& right) (lm &&& left) 0))
def bhE (X : Nat → Nat → Int32) (e : Nat) (left right : Int32) : Nat := bhN (wtE X e) (X 1 (661 + e)) (X 1 (665 + e)) (geE X e) left right
def fwG (maybe : Int32) : Nat := if maybe = 0 then 0 else 1
def fwI (count maybe : Int32) : Int32 := if rnI count 2 12 = 0 then -1 else if B1 (bothN count.toNatClampNeg (fwG maybe)) count.toNatClampNeg (fwG maybe) < 99 then nI (B1 (bothN count.toNatClampNeg (fwG maybe)) count.toNatClampNeg (fwG maybe)) else -2
theorem rnI_in {count : Int32} (h : ¬ rnI count 2 12 = 0) : ∃ c, 2 ≤ c ∧ c ≤ 12 ∧ count = nI c := by
  unfold rnI at h
  by_cases c : (2 : Int32) ≤ count ∧ count ≤ 12
  · rw [fa_le, fa_le, show (2 : Int32).toInt = 2 from rfl, show (12 : Int32).toInt = 12 from rfl] at c
    refine ⟨count.toInt.toNat, by omega, by omega, ?_⟩
    rw [fa_eq, nI_toInt (by omega)]
    omega
  · rw [if_neg c] at h; exact absurd rfl h
theorem layX_O {X : Nat → Nat → Int32} {n p q : Nat} (hn : n ≤ 12) (h1 : 2 ≤ p + q) (h2 : p + q ≤ n) : layX X n 38 (13 * p + q) = nI (oneN n p q) := layO_get (by omega) h1 (by omega)
theorem layX_B {X : Nat → Nat → Int32} {n u g : Nat} (hg : g ≤ 1) (h1 : 2 ≤ 2 * u + g) (h2 : u ≤ n) : layX X n 39 (2 * u + g) = nI (bothN n g u) := layB_get hg h1 (by omega)
