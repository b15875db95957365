/-! plain words, third part: seals, risk -/
def laN (r : Nat → Int32) (s day : Int32) : Nat → Int32
  | 0 => -2
  | k + 1 => if r (1 + k) = s then (if r (61 + k) = 1 then (if day < r (31 + k) then laN r s day k else nI k) else laN r s day k) else laN r s day k
theorem laN_or (r : Nat → Int32) (s day : Int32) (n : Nat) : laN r s day n = -2 ∨ ∃ j, j < n ∧ laN r s day n = nI j := by
  induction n with
  | zero => exact Or.inl rfl
  | succ n ih =>
    have h : laN r s day n = -2 ∨ ∃ j, j < n + 1 ∧ laN r s day n = nI j := by
      rcases ih with h | ⟨j, hj, h⟩
      · exact Or.inl h
      · exact Or.inr ⟨j, by omega, h⟩
    unfold laN
    split
    · split
      · split
        · exact h
        · exact Or.inr ⟨n, by omega, rfl⟩
      · exact h
    · exact h
theorem nI_m2 {j : Nat} (h : j < 2 ^ 31) : ¬ nI j = -2 := by
  intro z
  have h1 := nI_toInt h
  rw [z] at h1
  have h2 : (-2 : Int32).toInt = -2 := rfl
  omega
theorem nI_m1 {j : Nat} (h : j < 2 ^ 31) : ¬ nI j = -1 := by
  intro z
  have h1 := nI_toInt h
  rw [z] at h1
  have h2 : (-1 : Int32).toInt = -1 := rfl
  omega
def exI (X : Nat → Nat → Int32) (v : Nat) : Int32 := (X 1 (31 + v) / 360 + X 13 (X 5 (X 1 (1 + v)).toNatClampNeg).toNatClampNeg) * 360
def stI (X : Nat → Nat → Int32) (nv : Nat) (s day : Int32) : Int32 :=
  if laN (X 1) s day nv = -2 then 0 else if X 1 (91 + (laN (X 1) s day nv).toNatClampNeg) ≤ 0 then (if exI X (laN (X 1) s day nv).toNatClampNeg ≤ day then 2 else 1) else 3
theorem stI_1 {X : Nat → Nat → Int32} {nv : Nat} {s day : Int32} (h : stI X nv s day = 1) : ∃ v, v < nv ∧ laN (X 1) s day nv = nI v := by
  rcases laN_or (X 1) s day nv with e | e
  · unfold stI at h
    rw [if_pos e] at h
    exact absurd h (by decide)
  · exact e
def edI (X : Nat → Nat → Int32) (nv : Nat) (s day : Int32) : Int32 := if stI X nv s day = 1 then exI X (laN (X 1) s day nv).toNatClampNeg else -2
def swN (X : Nat → Nat → Int32) (nv : Nat) (state day : Int32) : Nat → Int32
  | 0 => 0
  | k + 1 => swN X nv state day k ||| (if stI X nv (nI k) day = state then 1 <<< (nI k &&& 31) else 0)
/-- the risk of a scale, part by part -/
def rk0 (st : Int32) : Nat := if st = 0 then 4 else if st = 1 then 1 else if st = 2 then 3 else 6
def rk1 (r : Nat → Int32) (s day : Int32) (b : Nat) : Nat → Nat
  | 0 => b
  | k + 1 => rk1 r s day b k + (if r (1 + k) = s then (if r (61 + k) = 1 then (if day < r (31 + k) then 0 else if r (91 + k) ≤ 0 then 0 else 1) else 0) else 0)
def rk2 (X : Nat → Nat → Int32) (nv s : Nat) (day : Int32) (b : Nat) : Nat → Nat
  | 0 => b
  | k + 1 => rk2 X nv s day b k + (if k = s then 0 else if X 4 k = X 4 s then (if stI X nv (nI k) day = 3 then 1 else 0) else 0)
def riN (X : Nat → Nat → Int32) (ns nv s : Nat) (day : Int32) : Nat := rk2 X nv s day (rk1 (X 1) (nI s) day (rk0 (stI X nv (nI s) day)) nv) ns
theorem rk0_b (st : Int32) : 1 ≤ rk0 st ∧ rk0 st ≤ 6 := by unfold rk0; (repeat' split) <;> omega
theorem rk1_b (r : Nat → Int32) (s day : Int32) (b k : Nat) : b ≤ rk1 r s day b k ∧ rk1 r s day b k ≤ b + k := by
  induction k with
  | zero => exact ⟨Nat.le_refl _, Nat.le_refl _⟩
  | succ k ih => unfold rk1; (repeat' split) <;> omega
theorem rk2_b (X : Nat → Nat → Int32) (nv s : Nat) (day : Int32) (b k : Nat) : b ≤ rk2 X nv s day b k ∧ rk2 X nv s day b k ≤ b + k := by
  induction k with
  | zero => exact ⟨Nat.le_refl _, Nat.le_refl _⟩
  | succ k ih => unfold rk2; (repeat' split) <;> omega
theorem riN_b (X : Nat → Nat → Int32) (ns nv s : Nat) (day : Int32) : 1 ≤ riN X ns nv s day ∧ riN X ns nv s day ≤ 6 + nv + ns := by
  have h0 := rk0_b (stI X nv (nI s) day)
  have h1 := rk1_b (X 1) (nI s) day (rk0 (stI X nv (nI s) day)) nv
  have h2 := rk2_b X nv s day (rk1 (X 1) (nI s) day (rk0 (stI X nv (nI s) day)) nv) ns
  unfold riN
  omega
/-- a trader's risk; the riskiest -/
def smN (X : Nat → Nat → Int32) (ns nv t : Nat) (day : Int32) : Nat → Nat
  | 0 => 0
  | k + 1 => smN X ns nv t day k + (if X 4 k = nI t then riN X ns nv k day else 0)
theorem smN_b (X : Nat → Nat → Int32) (ns nv t : Nat) (day : Int32) (k : Nat) : smN X ns nv t day k ≤ k * (6 + nv + ns) := by
  induction k with
  | zero => exact Nat.zero_le _
  | succ k ih =>
    have := (riN_b X ns nv k day).2
    rw [Nat.succ_mul]
    unfold smN
    split <;> omega
def rtM (X : Nat → Nat → Int32) (ns nv : Nat) (day : Int32) : Nat → Int32
  | 0 => -1
  | t + 1 => if nI (smN X ns nv t day ns) ≤ rtM X ns nv day t then rtM X ns nv day t else nI (smN X ns nv t day ns)
def rtI (X : Nat → Nat → Int32) (ns nv : Nat) (day : Int32) : Nat → Int32
  | 0 => -2
  | t + 1 => if nI (smN X ns nv t day ns) ≤ rtM X ns nv day t then rtI X ns nv day t else nI t
