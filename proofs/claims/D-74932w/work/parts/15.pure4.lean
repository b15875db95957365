/-! plain words, fourth part: what changes -/
theorem upd_upd (f : Nat → Int32) (k : Nat) (a b : Int32) : upd (upd f k a) k b = upd f k b := by
  funext j; unfold upd; split <;> rfl
theorem upd_self (f : Nat → Int32) (k : Nat) (a : Int32) : upd f k a k = a := if_pos rfl
theorem upd_ne {f : Nat → Int32} {k j : Nat} {a : Int32} (h : j ≠ k) : upd f k a j = f j := if_neg h
theorem upd_comm (f : Nat → Int32) {i j : Nat} (h : i ≠ j) (a b : Int32) : upd (upd f i a) j b = upd (upd f j b) i a := by
  funext q; unfold upd
  by_cases e : q = i <;> by_cases e2 : q = j
  · exact absurd (e.symm.trans e2) h
  · rw [if_neg e2, if_pos e, if_pos e]
  · rw [if_pos e2, if_neg e, if_pos e2]
  · rw [if_neg e2, if_neg e, if_neg e, if_neg e2]
theorem anyN_of {p : Nat → Bool} {k n : Nat} (hk : k < n) (h : p k = true) : anyN p n = true := by
  induction n with
  | zero => omega
  | succ n ih =>
    unfold anyN
    by_cases e : k = n
    · rw [← e, h, Bool.or_true]
    · rw [ih (by omega), Bool.true_or]
theorem anyN_iff {p : Nat → Bool} {n : Nat} : anyN p n = true ↔ ∃ k, k < n ∧ p k = true := by
  constructor
  · induction n with
    | zero => intro h; cases h
    | succ n ih =>
      intro h
      unfold anyN at h
      rcases Bool.or_eq_true_iff.mp h with h | h
      · obtain ⟨k, h1, h2⟩ := ih h; exact ⟨k, by omega, h2⟩
      · exact ⟨n, by omega, h⟩
  · rintro ⟨k, h1, h2⟩; exact anyN_of h1 h2
theorem allN_iff {p : Nat → Bool} {n : Nat} : allN p n = true ↔ ∀ k, k < n → p k = true := by
  induction n with
  | zero => exact ⟨fun _ k h => by omega, fun _ => rfl⟩
  | succ n ih =>
    unfold allN
    rw [Bool.and_eq_true, ih]
    constructor
    · rintro ⟨h1, h2⟩ k hk
      by_cases e : k = n
      · rw [e]; exact h2
      · exact h1 k (by omega)
    · intro h; exact ⟨fun k hk => h k (by omega), h n (by omega)⟩
theorem anyN_congr {p q : Nat → Bool} {n : Nat} (h : ∀ k, k < n → p k = q k) : anyN p n = anyN q n := by
  induction n with
  | zero => rfl
  | succ n ih => unfold anyN; rw [ih (fun k hk => h k (by omega)), h n (by omega)]
theorem allN_congr {p q : Nat → Bool} {n : Nat} (h : ∀ k, k < n → p k = q k) : allN p n = allN q n := by
  induction n with
  | zero => rfl
  | succ n ih => unfold allN; rw [ih (fun k hk => h k (by omega)), h n (by omega)]
theorem rdcp {X : Nat → Nat → Int32} {j k sp dp i : Nat} (h : j ≠ k ∨ dp ≤ sp) : setX X k (cpN (X j) (X k) sp dp i) j (sp + i) = X j (sp + i) := by
  by_cases e : j = k
  · subst e
    rw [setX_self, cpN_eq]
    exact pk_cpy_out (by omega)
  · exact congrFun (setX_ne e) _
/-- the row of the past at the top of the undo rows -/
def kpN (nu : Nat) : Nat := if nu = 12 then 12 else nu + 1
def kpA (X : Nat → Nat → Int32) (nu : Nat) : Nat → Int32 := if nu = 12 then cpN (X 1) (cpN (X 42) (X 42) 677 0 (677 * 11)) 0 (677 * 11) 677 else cpN (X 1) (X 42) 0 (677 * nu) 677
theorem kpN_le {nu : Nat} (h : nu ≤ 12) : kpN nu ≤ 12 := by unfold kpN; split <;> omega
theorem TsB_congr {nm v i : Nat} {r r' : Nat → Int32} (hv : v < 30) (hi : i < 8) (h : ∀ j, j < 677 → r j = r' j) (T : TsB nm r v i) : TsB nm r' v i := by
  unfold TsB at *
  rw [← h (181 + 8 * v + i) (by omega), ← h (421 + 8 * v + i) (by omega)]
  exact T
theorem ViB_congr {ns nm v : Nat} {r r' : Nat → Int32} (hv : v < 30) (h : ∀ j, j < 677 → r j = r' j) (T : ViB ns nm r v) : ViB ns nm r' v := by
  obtain ⟨h1, h2, h3, h4, h5, ⟨t, ht, et, hts⟩⟩ := T
  refine ⟨?_, ?_, ?_, ?_, ?_, ⟨t, ht, ?_, fun i hi => TsB_congr hv (by omega) h (hts i hi)⟩⟩
  · rw [← h (1 + v) (by omega)]; exact h1
  · rw [← h (31 + v) (by omega)]; exact h2
  · rw [← h (61 + v) (by omega)]; exact h3
  · rw [← h (91 + v) (by omega)]; exact h4
  · rw [← h (121 + v) (by omega)]; exact h5
  · rw [← h (151 + v) (by omega)]; exact et
theorem HyB_congr {wt : Nat → Int32} {e : Nat} {r r' : Nat → Int32} (he : e < 4) (h : ∀ j, j < 677 → r j = r' j) (T : HyB wt r e) : HyB wt r' e := by
  unfold HyB at *
  rw [← h (661 + e) (by omega), ← h (665 + e) (by omega), ← h (669 + e) (by omega), ← h (673 + e) (by omega)]
  exact T
theorem Rw_congr {ns nm ne nv : Nat} {wt r r' : Nat → Int32} (hne : ne ≤ 4) (h : ∀ j, j < 677 → r j = r' j) (T : Rw ns nm ne wt r nv) : Rw ns nm ne wt r' nv := by
  obtain ⟨h1, h2, h3, h4⟩ := T
  exact ⟨by rw [← h 0 (by omega)]; exact h1, h2, fun v hv => ViB_congr (by omega) h (h3 v hv), fun e he => HyB_congr (by omega) h (h4 e he)⟩
theorem kpA_top {X : Nat → Nat → Int32} {nu : Nat} (hu : nu ≤ 12) {i : Nat} (hi : i < 677) : kpA X nu (677 * (kpN nu - 1) + i) = X 1 i := by
  unfold kpA kpN
  by_cases c : nu = 12
  · rw [if_pos c, if_pos c, cpN_eq, pk_cpy_in (by omega) (by omega)]
    exact congrArg (X 1) (by omega)
  · rw [if_neg c, if_neg c, cpN_eq, pk_cpy_in (by omega) (by omega)]
    exact congrArg (X 1) (by omega)
theorem kpA_low {X : Nat → Nat → Int32} {nu j : Nat} (hj : j + 1 < kpN nu) (hu : nu ≤ 12) {i : Nat} (hi : i < 677) : kpA X nu (677 * j + i) = X 42 (677 * (if nu = 12 then j + 1 else j) + i) := by
  unfold kpA
  unfold kpN at hj
  by_cases c : nu = 12
  · rw [if_pos c, if_pos c, cpN_eq, cpN_eq]
    rw [if_pos c] at hj
    rw [pk_cpy_out (by omega), pk_cpy_in (by omega) (by omega)]
    exact congrArg (X 42) (by omega)
  · rw [if_neg c, if_neg c, cpN_eq]
    rw [if_neg c] at hj
    rw [pk_cpy_out (by omega)]
section IvC
variable {F : Nat → Int32} {X : Nat → Nat → Int32} {nt ns nm ne nv nu ln : Nat}
theorem Iv.keep (J : Iv F X nt ns nm ne nv nu ln) : Iv (upd F 41 (nI (kpN nu))) (setX X 42 (kpA X nu)) nt ns nm ne nv (kpN nu) ln := by
  obtain ⟨h1, h2, h3, h4, h5, h6, h7, h8, h9, h10⟩ := J
  refine ⟨h1, h2, h3, h4, ⟨rfl, kpN_le h5.2⟩, h6, h7, h8, fun j hj => ?_, h10⟩
  by_cases c : j + 1 = kpN nu
  · exact ⟨nv, Rw_congr (by omega) (fun i hi => by
      show X 1 i = kpA X nu (677 * j + i)
      rw [show j = kpN nu - 1 by omega, kpA_top h5.2 hi]) h8⟩
  · have hj2 : (if nu = 12 then j + 1 else j) < nu := by
      unfold kpN at hj c
      split at hj
      · rename_i e; rw [if_pos e] at c ⊢; omega
      · rename_i e; rw [if_neg e] at c ⊢; omega
    obtain ⟨nv', h⟩ := h9 _ hj2
    exact ⟨nv', Rw_congr (by omega) (fun i hi => by
      show X 42 (677 * (if nu = 12 then j + 1 else j) + i) = kpA X nu (677 * j + i)
      rw [kpA_low (by omega) h5.2 hi]) h⟩
theorem Iv.row (J : Iv F X nt ns nm ne nv nu ln) {r : Nat → Int32} {nv' : Nat} (h : Rw ns nm ne (X 11) r nv') : Iv F (setX X 1 r) nt ns nm ne nv' nu ln := by
  obtain ⟨h1, h2, h3, h4, h5, h6, h7, h8, h9, h10⟩ := J
  exact ⟨h1, h2, h3, h4, h5, h6, h7, h, h9, h10⟩
/-- a visit's row with one of its words set -/
theorem Iv.closed (J : Iv F X nt ns nm ne nv nu ln) {v : Nat} (hv : v < nv) : Rw ns nm ne (X 11) (upd (X 1) (61 + v) 1) nv := by
  obtain ⟨h1, h2, h3, h4⟩ := J.rw
  refine ⟨by rw [upd_ne (by omega)]; exact h1, h2, fun u hu => ?_, fun e he => ?_⟩
  · obtain ⟨g1, g2, g3, g4, g5, ⟨t, ht, et, hts⟩⟩ := h3 u hu
    refine ⟨by rw [upd_ne (by omega)]; exact g1, by rw [upd_ne (by omega)]; exact g2, ?_, by rw [upd_ne (by omega)]; exact g4, by rw [upd_ne (by omega)]; exact g5, ⟨t, ht, by rw [upd_ne (by omega)]; exact et, fun i hi => ?_⟩⟩
    · by_cases e : u = v
      · rw [e, upd_self]; exact Or.inr rfl
      · rw [upd_ne (by omega)]; exact g3
    · have := hts i hi
      unfold TsB at *
      rw [upd_ne (by omega), upd_ne (by omega)]
      exact this
  · have := h4 e he
    have := J.le
    unfold HyB at *
    rw [upd_ne (by omega), upd_ne (by omega), upd_ne (by omega), upd_ne (by omega)]
    assumption
end IvC
/-! startVisit -/
def svBad (r : Nat → Int32) (s day : Int32) : Nat → Bool := anyN (fun k => decide (r (1 + k) = s) && decide (day < r (31 + k)))
def svOp (r : Nat → Int32) (s : Int32) : Nat → Bool := anyN (fun k => decide (r (1 + k) = s) && decide (r (61 + k) = 0))
def svSe (r : Nat → Int32) (s : Int32) : Nat → Bool := anyN (fun k => decide (r (1 + k) = s) && (decide (r (61 + k) = 1) && decide (r (91 + k) = 0)))
theorem svBad_s (r : Nat → Int32) (s day : Int32) (k : Nat) : svBad r s day (k + 1) = (svBad r s day k || (decide (r (1 + k) = s) && decide (day < r (31 + k)))) := rfl
theorem svOp_s (r : Nat → Int32) (s : Int32) (k : Nat) : svOp r s (k + 1) = (svOp r s k || (decide (r (1 + k) = s) && decide (r (61 + k) = 0))) := rfl
theorem svSe_s (r : Nat → Int32) (s : Int32) (k : Nat) : svSe r s (k + 1) = (svSe r s k || (decide (r (1 + k) = s) && (decide (r (61 + k) = 1) && decide (r (91 + k) = 0)))) := rfl
def svC (r : Nat → Int32) (nv s t : Nat) : Int32 := if svBad r (nI s) (nI t) nv = true then -1 else if svOp r (nI s) nv = true then -2 else if nv = 30 then -3 else nI nv
def svI (r : Nat → Int32) (ns nv : Nat) (scale day : Int32) : Int32 := atI scale ns (fun s => atI day 10000 (fun t => svC r nv s t))
def svR (r : Nat → Int32) (nv : Nat) (scale day : Int32) : Nat → Int32 :=
  upd (upd (upd (upd (upd (upd (upd r (1 + nv) scale) (31 + nv) day) (61 + nv) 0) (91 + nv) 0) (121 + nv) (b2i (svSe r scale nv))) (151 + nv) 0) 0 (nI (nv + 1))
/-- the state behind a change that answers res, with the new row r -/
def chF (F : Nat → Int32) (nu : Nat) (res : Int32) : Nat → Int32 := if 0 ≤ res then upd (upd F 0 0) 41 (nI (kpN nu)) else upd F 0 0
def chX (X : Nat → Nat → Int32) (nu : Nat) (res : Int32) (r : Nat → Int32) : Nat → Nat → Int32 := if 0 ≤ res then setX (setX X 42 (kpA X nu)) 1 r else X
/-! record -/
def rcC (X : Nat → Nat → Int32) (nm v p : Nat) (reading : Int32) : Int32 :=
  if X 7 (X 1 (1 + v)).toNatClampNeg < loadN (X 9) (nI p) nm then -1 else if rnI reading (-1999999) 1999999 = 0 then -1 else if X 1 (61 + v) = 1 then -2 else if tnV X v = 8 then -3 else nI (tnV X v)
def rcI (X : Nat → Nat → Int32) (nm nv : Nat) (visit put reading : Int32) : Int32 := atI visit nv (fun v => atI put (2 ^ nm) (fun p => rcC X nm v p reading))
def rcR (X : Nat → Nat → Int32) (v : Nat) (put reading : Int32) : Nat → Int32 := upd (upd (upd (X 1) (181 + 8 * v + tnV X v) put) (421 + 8 * v + tnV X v) reading) (151 + v) (nI (tnV X v + 1))
/-! closeVisit -/
def cvC (X : Nat → Nat → Int32) (nm v : Nat) : Int32 := if X 1 (61 + v) = 1 then -2 else vdI X nm v 0
def cvI (X : Nat → Nat → Int32) (nm nv : Nat) (visit : Int32) : Int32 := atI visit nv (cvC X nm)
def cvR (X : Nat → Nat → Int32) (nm v : Nat) : Nat → Int32 := upd (upd (X 1) (61 + v) 1) (91 + v) (vdI X nm v 0)
/-! counterfeit weights -/
def coN (r : Nat → Int32) (e : Nat) : Int32 := nI (pcI (r (661 + e)) + pcI (r (665 + e))) + r (669 + e)
def fiN (r : Nat → Int32) (e w : Nat) : Nat → Int32
  | 0 => 0
  | k + 1 => if r (661 + e) = nI (2 ^ (w - (k + 1))) then nI (1 + 2 * (w - (k + 1))) else if r (665 + e) = nI (2 ^ (w - (k + 1))) then nI (2 + 2 * (w - (k + 1))) else fiN r e w k
def fiI (X : Nat → Nat → Int32) (e : Nat) : Int32 := if coN (X 1) e ≤ 1 then fiN (X 1) e (X 11 e).toNatClampNeg (X 11 e).toNatClampNeg else -2
def wgA (w left right : Int32) (h res : Int32) (a b : Int32) : Int32 := h &&& (if res = 0 then (left ||| right) ^^^ (-1) else if res = 1 then a else b)
def wgH (r : Nat → Int32) (e : Nat) (left right res : Int32) : Int32 := r (661 + e) &&& (if res = 0 then (left ||| right) ^^^ (-1) else if res = 1 then left else right)
def wgL (r : Nat → Int32) (e : Nat) (left right res : Int32) : Int32 := r (665 + e) &&& (if res = 0 then (left ||| right) ^^^ (-1) else if res = 1 then right else left)
def wgG (r : Nat → Int32) (e : Nat) (res : Int32) : Int32 := if res = 0 then r (669 + e) else 0
def wgN (r : Nat → Int32) (e : Nat) (left right res : Int32) : Int32 := nI (pcI (wgH r e left right res) + pcI (wgL r e left right res)) + wgG r e res
def wgC (X : Nat → Nat → Int32) (e : Nat) (left right res : Int32) : Int32 :=
  if rnI left 1 (1 <<< (X 11 e &&& 31) - 1) = 0 then -1 else if rnI right 1 (1 <<< (X 11 e &&& 31) - 1) = 0 then -1 else if left &&& right = 0 then (if pcI left = pcI right then (if ixI res 3 = 0 then -1 else if wgN (X 1) e left right res = 0 then -2 else if X 1 (673 + e) = 20 then -3 else wgN (X 1) e left right res) else -1) else -1
def wgI (X : Nat → Nat → Int32) (ne : Nat) (set left right res : Int32) : Int32 := atI set ne (fun e => wgC X e left right res)
def wgR (X : Nat → Nat → Int32) (e : Nat) (left right res : Int32) : Nat → Int32 := upd (upd (upd (upd (X 1) (661 + e) (wgH (X 1) e left right res)) (665 + e) (wgL (X 1) e left right res)) (669 + e) (wgG (X 1) e res)) (673 + e) (X 1 (673 + e) + 1)
/-! append -/
def byI (v : Int32) (s : Int32) : Int32 := (v >>> (s &&& 31)).toInt8.toInt32
def bw4 (f : Nat → Int32) (ln : Nat) (v : Int32) : Nat → Int32 := upd (upd (upd (upd f ln (byI v 24)) (ln + 1) (byI v 16)) (ln + 1 + 1) (byI v 8)) (ln + 1 + 1 + 1) (byI v 0)
def ap5 (f : Nat → Int32) (ln : Nat) (a b c d e : Int32) : Nat → Int32 := bw4 (bw4 (bw4 (bw4 (bw4 f ln a) (ln + 4) b) (ln + 4 + 4) c) (ln + 4 + 4 + 4) d) (ln + 4 + 4 + 4 + 4) e
