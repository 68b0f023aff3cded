/-! THE FESTIVAL AS A ROW OF NUMBERS: what every step does to it (both sides are held against these words) -/
set_option maxRecDepth 100000
abbrev Row : Type := Nat → Int32
def nR (R : Row) : Nat := (R 1).toNatClampNeg
def nB (R : Row) : Nat := (R 2).toNatClampNeg
def nC (R : Row) : Nat := (R 3).toNatClampNeg
def nP (R : Row) : Nat := (R 4).toNatClampNeg
def bI (b : Bool) : Int32 := if b then 1 else 0
abbrev inB (v a b : Int32) : Bool := decide (a ≤ v ∧ v ≤ b)
def s_find (n : Nat) (p : Nat → Bool) : Option Nat := (List.range n).find? p
def rfo : Option Nat → Int32
  | some r => nI r
  | none => -1
def s_sum : Nat → (Nat → Int32) → Int32
  | 0, _ => 0
  | n + 1, f => s_sum n f + f n
theorem s_find_none {n : Nat} {p : Nat → Bool} (h : ∀ i, i < n → p i = false) : s_find n p = none := by
  unfold s_find
  rw [List.find?_eq_none]
  intro i hi
  simp [h i (List.mem_range.mp hi)]
theorem s_find_some {n i : Nat} {p : Nat → Bool} (hi : i < n) (hp : p i = true) (h : ∀ j, j < i → p j = false) : s_find n p = some i := by
  unfold s_find
  rw [List.find?_range_eq_some]
  refine ⟨hp, List.mem_range.mpr hi, fun j hj => by simp [h j hj]⟩
theorem s_find_is {n i : Nat} {p : Nat → Bool} (h : s_find n p = some i) : i < n ∧ p i = true ∧ ∀ j, j < i → p j = false := by
  unfold s_find at h
  rw [List.find?_range_eq_some] at h
  exact ⟨List.mem_range.mp h.2.1, h.1, fun j hj => by simpa using h.2.2 j hj⟩
theorem s_find_not {n : Nat} {p : Nat → Bool} (h : s_find n p = none) : ∀ i, i < n → p i = false := by
  unfold s_find at h
  rw [List.find?_eq_none] at h
  intro i hi
  simpa using h i (List.mem_range.mpr hi)
theorem rfo_neg {o : Option Nat} (hb : ∀ r, o = some r → r < 2 ^ 31) : rfo o < 0 ↔ o = none := by
  cases o with
  | none => simp [rfo]
  | some r => simp [rfo]; exact Int32.not_lt.mp (nI_pos (hb r rfl))
/-- the roof at a place -/
def s_roofAt (R : Row) (pl : Int32) : Option Nat := s_find (nR R) (fun r => R (12 + 5 * r) == pl)
def s_with (R : Row) (w : Nat) : Int32 := s_sum (nR R) (fun r => R (12 + 5 * r + w))
def s_ends (R : Row) (b : Nat) (st : Int32) : Row :=
  let R2 := upd (upd R (52 + 7 * b + 0) st) (52 + 7 * b + 4) (-1)
  if st = 4 then upd R2 (52 + 7 * b + 5) (-1) else R2
def s_burns (R : Row) (b r : Nat) : Bool := decide (R (12 + 5 * r + 3) = 0 ∧ 0 < R (52 + 7 * b + 3) ∧ R (12 + 5 * r + 1) < 3 ∧ R (12 + 5 * r + 2) = 0)
def s_lands (R : Row) (b : Nat) : Row := match s_roofAt R (R (52 + 7 * b + 5)) with
  | none => s_ends R b 2
  | some r =>
    let R1 := upd R (12 + 5 * r + 4) (R (12 + 5 * r + 4) + 1)
    if s_burns R b r = true then s_ends (upd R1 (12 + 5 * r + 3) 1) b 3 else s_ends R1 b 2
def s_drifts (R : Row) (b : Nat) : Row :=
  let d := R (8 + (R (52 + 7 * b + 4)).toNatClampNeg)
  let p := R (52 + 7 * b + 5) + d
  let R1 := upd R (52 + 7 * b + 5) p
  if inB p 0 60 = false then s_ends R1 b 4
  else if d ≠ 3 ∧ d ≠ -3 then R1
  else
    let R2 := upd R1 (52 + 7 * b + 1) (R (52 + 7 * b + 1) - 1)
    if 0 < R (52 + 7 * b + 1) - 1 then R2
    else if 0 < R (52 + 7 * b + 2) then s_ends R2 b 3 else s_lands R2 b
def s_fliesOn (R : Row) (b : Nat) : Row :=
  let R2 := upd (upd R (52 + 7 * b + 6) (R (52 + 7 * b + 6) + 1)) 7 (R 7 + 1)
  if 0 < R (52 + 7 * b + 2) then
    s_drifts (upd (upd R2 (52 + 7 * b + 2) (R (52 + 7 * b + 2) - 1)) (52 + 7 * b + 4) (if 3 < R (52 + 7 * b + 4) + 1 then 3 else R (52 + 7 * b + 4) + 1)) b
  else
    let R3 := upd R2 (52 + 7 * b + 3) (if R (52 + 7 * b + 3) - 1 < 0 then 0 else R (52 + 7 * b + 3) - 1)
    if R (52 + 7 * b + 4) = 0 then s_lands R3 b
    else s_drifts (upd R3 (52 + 7 * b + 4) (R (52 + 7 * b + 4) - 1)) b
/-- why a launch is refused -/
def s_refL (R : Row) (b c : Nat) : Option (Int32 × Int32) :=
  if R (52 + 7 * b + 0) ≠ 0 then some (3, R (52 + 7 * b + 0))
  else if 0 < R (192 + 3 * c + 1) then some (4, R (192 + 3 * c + 1))
  else if R 8 = 3 ∨ R 8 = -3 then some (5, R 8) else none
def s_launches (R : Row) (b c : Nat) : Row :=
  upd (upd (upd (upd (upd (upd R (52 + 7 * b + 0) 1) (52 + 7 * b + 4) 0) (52 + 7 * b + 5) (R (192 + 3 * c + 0))) (192 + 3 * c + 1) 4) (192 + 3 * c + 2) (R (192 + 3 * c + 2) + 1)) 6 (R 6 + 1)
def s_planOf (R : Row) (b : Nat) : Option Nat := s_find (nP R) (fun p => R (204 + 3 * p) == nI b)
/-- the plan p goes, those behind it move up -/
def s_planGoes (R : Row) (p : Nat) : Row := fun j =>
  if j = 4 then R 4 - 1
  else if 204 + 3 * p ≤ j ∧ j + 3 < 204 + 3 * nP R then R (j + 3)
  else if 204 + 3 * p ≤ j ∧ j < 204 + 3 * nP R then 0
  else R j
def s_planNow (R : Row) : Row :=
  let b := (R 204).toNatClampNeg
  let c := (R 205).toNatClampNeg
  s_planGoes (if (s_refL R b c).isSome then upd R 5 (R 5 + 1) else s_launches R b c) 0
def s_plansNow : Nat → Row → Row
  | 0, R => R
  | n + 1, R => if R 206 = R 0 then s_plansNow n (s_planNow R) else R
def s_ball (q : Row × Int32) (b : Nat) : Row × Int32 :=
  if q.1 (52 + 7 * b + 0) = 1 then
    let R' := s_fliesOn q.1 b
    (R', q.2 + (if R' (52 + 7 * b + 0) = 1 then 0 else 1))
  else q
def s_balls : Nat → Row → Row × Int32
  | 0, R => (R, 0)
  | n + 1, R => s_ball (s_balls n R) n
/-- the crews below i have rested a minute -/
def s_crews (R : Row) (i : Nat) : Row := fun j => if 192 ≤ j ∧ j < 192 + 3 * i ∧ (j - 192) % 3 = 1 then (if R j - 1 < 0 then 0 else R j - 1) else R j
/-- the roofs below i have dried a bit -/
def s_dry (R : Row) (i : Nat) : Row := fun j => if 12 ≤ j ∧ j < 12 + 5 * i ∧ (j - 12) % 5 = 1 then (if R j - 1 < 0 then 0 else R j - 1) else R j
def s_tenth (R : Row) : Bool := decide (R 0 - R 0 / 10 * 10 = 9)
def s_minute (R : Row) : Row × Int32 :=
  let R1 := s_plansNow (nP R) R
  let q := s_balls (nB R1) R1
  let R2 := s_crews q.1 (nC q.1)
  let R3 := if s_tenth R2 = true then s_dry R2 (nR R2) else R2
  (upd R3 0 (R3 0 + 1), q.2)
def s_goes : Nat → Row → Row × Int32
  | 0, R => (R, 0)
  | n + 1, R => let q := s_goes n R; let r := s_minute q.1; (r.1, q.2 + r.2)
