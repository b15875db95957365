/-! plain words, second part: loads, tests, verdicts -/
def b2i (b : Bool) : Int32 := if b = true then 1 else 0
theorem b2i_nar (b : Bool) : narrow .boolean (.int (b2i b)) = .int (b2i b) := by cases b <;> rfl
theorem b2i_T {b : Bool} (h : ¬ b2i b = 0) : b = true := by cases b with
  | false => exact absurd rfl h
  | true => rfl
theorem b2i_F {b : Bool} (h : b2i b = 0) : b = false := by cases b with
  | false => rfl
  | true => exact absurd h (by decide)
def anyN (p : Nat → Bool) : Nat → Bool
  | 0 => false
  | n + 1 => anyN p n || p n
def allN (p : Nat → Bool) : Nat → Bool
  | 0 => true
  | n + 1 => allN p n && p n
theorem shl1 {k : Nat} (h : k < 32) : (1 : Int32) <<< (nI k &&& 31) = nI (2 ^ k) := by
  have e : ((nI k &&& 31).toBitVec.smod 32).toNat = k := by
    have : ∀ k, k < 32 → ((nI k &&& 31).toBitVec.smod 32).toNat = k := by decide
    exact this k h
  have := pk_shlN (n := 1) (nI k &&& 31) k e (by rw [Nat.one_mul]; exact Nat.pow_lt_pow_right (by decide) h)
  rw [Nat.one_mul] at this
  exact this
theorem pow10 {k : Nat} (h : k ≤ 10) : 2 ^ k ≤ 1024 := Nat.pow_le_pow_right (by decide) h
theorem pow12 {k : Nat} (h : k ≤ 12) : 2 ^ k ≤ 4096 := Nat.pow_le_pow_right (by decide) h
/-- the tolerance of scale s at a load -/
def baseF (X : Nat → Nat → Int32) (s : Nat) (load : Int32) : Int32 :=
  let d := X 6 s
  let a : Int32 := if X 5 s = 0 then 5000 else if X 5 s = 1 then 500 else 50
  if a * d < load then (if 4 * a * d < load then (3 * d + 1) / 2 else d) else (d + 1) / 2
def btT (X : Nat → Nat → Int32) (ns : Nat) (s load : Int32) : Int32 := if ixI s ns = 0 then 1 else if rnI load 0 (X 7 s.toNatClampNeg) = 0 then 2 else 0
def btR (X : Nat → Nat → Int32) (ns : Nat) (s load : Int32) : Int32 := if btT X ns s load = 0 then baseF X s.toNatClampNeg load else 0
def fmN (f : Nat → Int32) (ld : Int32) (nm : Nat) : Nat → Int32
  | 0 => -2
  | k + 1 => if loadN f (nI k) nm = ld then (if fmN f ld nm k = -2 then nI k else if pcI (fmN f ld nm k) ≤ pcI (nI k) then fmN f ld nm k else nI k) else fmN f ld nm k
def clN (f : Nat → Int32) (ld : Int32) (nm : Nat) : Nat → Int32
  | 0 => 0
  | k + 1 => if ld < loadN f (nI k) nm then clN f ld nm k else if loadN f (nI k) nm ≤ clN f ld nm k then clN f ld nm k else loadN f (nI k) nm
def fmI (f : Nat → Int32) (ld : Int32) (nm : Nat) : Int32 := if 0 ≤ ld then fmN f ld nm (2 ^ nm) else -1
def clI (f : Nat → Int32) (ld : Int32) (nm : Nat) : Int32 := if 0 ≤ ld then clN f ld nm (2 ^ nm) else -1
/-- of visit v, test t: load, error, tolerance -/
def ldT (X : Nat → Nat → Int32) (nm v t : Nat) : Int32 := loadN (X 9) (X 1 (181 + 8 * v + t)) nm
def erT (X : Nat → Nat → Int32) (nm v t : Nat) : Int32 := X 1 (421 + 8 * v + t) - ldT X nm v t
def toT (X : Nat → Nat → Int32) (nm v t : Nat) : Int32 := baseF X (X 1 (1 + v)).toNatClampNeg (ldT X nm v t) * (1 + X 1 (121 + v))
def tnV (X : Nat → Nat → Int32) (v : Nat) : Nat := (X 1 (151 + v)).toNatClampNeg
def vEm (X : Nat → Nat → Int32) (v : Nat) : Nat → Bool := anyN (fun t => decide (X 1 (181 + 8 * v + t) = 0))
def vHa (X : Nat → Nat → Int32) (nm v : Nat) : Nat → Bool := anyN (fun t => !decide (2 * ldT X nm v t < X 7 (X 1 (1 + v)).toNatClampNeg))
def vPa (X : Nat → Nat → Int32) (nm v : Nat) (less : Int32) : Nat → Bool := allN (fun t => !decide (toT X nm v t < szI (erT X nm v t - less)))
def vTw1 (X : Nat → Nat → Int32) (v t : Nat) : Nat → Bool := anyN (fun u => decide (X 1 (181 + 8 * v + u) = X 1 (181 + 8 * v + t)) && !decide (X 1 (181 + 8 * v + t) = 0))
def vTw (X : Nat → Nat → Int32) (v : Nat) : Nat → Bool := anyN (fun t => vTw1 X v t t)
def vAg1 (X : Nat → Nat → Int32) (nm v t : Nat) : Nat → Bool := allN (fun u => !decide (X 1 (181 + 8 * v + u) = X 1 (181 + 8 * v + t)) || !decide (toT X nm v t < szI (erT X nm v t - erT X nm v u)))
def vAg (X : Nat → Nat → Int32) (nm v : Nat) : Nat → Bool := allN (fun t => vAg1 X nm v t t)
/-- the verdict of visit v if something were subtracted from each reading -/
def vdI (X : Nat → Nat → Int32) (nm v : Nat) (less : Int32) : Int32 :=
  if vEm X v (tnV X v) = false then 1 else if vHa X nm v (tnV X v) = false then 2 else if vTw X v (tnV X v) = false then 3 else if vPa X nm v less (tnV X v) = false then 4 else if vAg X nm v (tnV X v) = false then 5 else 0
def mnS (e : Nat → Int32) : Nat → Int32
  | 0 => e 0
  | j + 1 => if mnS e j ≤ e (j + 1) then mnS e j else e (j + 1)
def mxS (e : Nat → Int32) : Nat → Int32
  | 0 => e 0
  | j + 1 => if e (j + 1) ≤ mxS e j then mxS e j else e (j + 1)
def adI (X : Nat → Nat → Int32) (nm v : Nat) : Int32 := (mnS (erT X nm v) (tnV X v - 1) + mxS (erT X nm v) (tnV X v - 1)) >>> ((1 : Int32) &&& 31)
def ajT (X : Nat → Nat → Int32) (nv : Nat) (v : Int32) : Int32 := if ixI v nv = 0 then 1 else if X 1 (151 + v.toNatClampNeg) = 0 then 2 else 0
def ajR (X : Nat → Nat → Int32) (nm nv : Nat) (v : Int32) : Int32 := if ajT X nv v = 0 then adI X nm v.toNatClampNeg else 0
def avI (X : Nat → Nat → Int32) (nm v : Nat) : Int32 := if X 1 (151 + v) = 0 then 1 else vdI X nm v (adI X nm v)
/-- v is a visit, t a test of it -/
def tsI (X : Nat → Nat → Int32) (nv : Nat) (v t : Int32) : Int32 := if ixI v nv = 0 then 0 else ixI t (tnV X v.toNatClampNeg)
theorem tsI_nar (X : Nat → Nat → Int32) (nv : Nat) (v t : Int32) : narrow .boolean (.int (tsI X nv v t)) = .int (tsI X nv v t) := by
  unfold tsI; split
  · rfl
  · exact ixI_nar _ _
/-- twice and agree, under way in row t -/
def twK (X : Nat → Nat → Int32) (v t u : Nat) : Bool := vTw X v t || vTw1 X v t u
def agK (X : Nat → Nat → Int32) (nm v t u : Nat) : Bool := vAg X nm v t && vAg1 X nm v t u
theorem vEm_s (X : Nat → Nat → Int32) (v t : Nat) : vEm X v (t + 1) = (vEm X v t || decide (X 1 (181 + 8 * v + t) = 0)) := rfl
theorem vHa_s (X : Nat → Nat → Int32) (nm v t : Nat) : vHa X nm v (t + 1) = (vHa X nm v t || !decide (2 * ldT X nm v t < X 7 (X 1 (1 + v)).toNatClampNeg)) := rfl
theorem vPa_s (X : Nat → Nat → Int32) (nm v : Nat) (less : Int32) (t : Nat) : vPa X nm v less (t + 1) = (vPa X nm v less t && !decide (toT X nm v t < szI (erT X nm v t - less))) := rfl
theorem twK_s (X : Nat → Nat → Int32) (v t u : Nat) : twK X v t (u + 1) = (twK X v t u || (decide (X 1 (181 + 8 * v + u) = X 1 (181 + 8 * v + t)) && !decide (X 1 (181 + 8 * v + t) = 0))) := (Bool.or_assoc _ _ _).symm
theorem agK_s (X : Nat → Nat → Int32) (nm v t u : Nat) : agK X nm v t (u + 1) = (agK X nm v t u && (!decide (X 1 (181 + 8 * v + u) = X 1 (181 + 8 * v + t)) || !decide (toT X nm v t < szI (erT X nm v t - erT X nm v u)))) := (Bool.and_assoc _ _ _).symm
theorem twK_0 (X : Nat → Nat → Int32) (v t : Nat) : twK X v t 0 = vTw X v t := Bool.or_false _
theorem agK_0 (X : Nat → Nat → Int32) (nm v t : Nat) : agK X nm v t 0 = vAg X nm v t := Bool.and_true _
