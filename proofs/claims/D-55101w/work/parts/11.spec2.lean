/-! OUTCOMES of the public calls on a row: what is thrown, the answer, the new row, what was refused -/
set_option maxRecDepth 100000
abbrev Oc : Type := Int32 × Int32 × Row × Option (Int32 × Int32)
def oNo (t : Int32) (R : Row) : Oc := (t, 0, R, none)
def oRf (t w d : Int32) (R : Row) : Oc := (t, 0, R, some (w, d))
def oOk (v : Int32) (R' : Row) : Oc := (0, v, R', none)
abbrev Qa : Type := Int32 × Int32
def o_wind (R : Row) (ly dr : Int32) : Oc :=
  if inB ly 0 3 = false then oNo 1 R
  else if inB dr (-3) 3 = false then oNo 2 R
  else oOk (R (8 + ly.toNatClampNeg)) (upd R (8 + ly.toNatClampNeg) dr)
def q_windOf (R : Row) (ly : Int32) : Qa := if inB ly 0 3 = true then (0, R (8 + ly.toNatClampNeg)) else (1, 0)
def s_newRoof (R : Row) (pl w : Int32) : Row :=
  upd (upd (upd (upd (upd (upd R (12 + 5 * nR R + 0) pl) (12 + 5 * nR R + 1) w) (12 + 5 * nR R + 2) 0) (12 + 5 * nR R + 3) 0) (12 + 5 * nR R + 4) 0) 1 (R 1 + 1)
def o_roof (R : Row) (pl w : Int32) : Oc :=
  if inB pl 0 60 = false then oNo 1 R
  else if inB w 0 9 = false then oNo 1 R
  else match s_roofAt R pl with
    | some r => oRf 2 2 (R (12 + 5 * r + 1)) R
    | none => if R 1 = 8 then oRf 2 1 8 R else oOk (R 1 + 1) (s_newRoof R pl w)
def q_roofOf (R : Row) (pl what : Int32) : Qa := match s_roofAt R pl with
  | none => (1, 0)
  | some r => if inB what 0 3 = true then (0, R (12 + 5 * r + (what.toNatClampNeg + 1))) else (2, 0)
/-- how many roofs stand below roof r -/
def s_below (R : Row) (r : Nat) : Int32 := s_sum (nR R) (fun o => if R (12 + 5 * o) < R (12 + 5 * r) then 1 else 0)
def q_roofAt (R : Row) (i : Int32) : Qa := match s_find (nR R) (fun r => s_below R r == i) with
  | some r => (0, R (12 + 5 * r))
  | none => (1, 0)
def q_nearest (R : Row) (pl : Int32) : Qa :=
  if inB pl 0 60 = false then (1, 0)
  else match s_find 61 (fun d => (s_roofAt R (pl - nI d)).isSome || (s_roofAt R (pl + nI d)).isSome) with
    | some d => if (s_roofAt R (pl - nI d)).isSome = true then (0, pl - nI d) else (0, pl + nI d)
    | none => (2, 0)
def o_watch (R : Row) (pl w : Int32) : Oc := match s_roofAt R pl with
  | none => oNo 1 R
  | some r => let R' := upd R (12 + 5 * r + 2) (if w = 0 then 0 else 1); oOk (s_with R' 2) R'
def s_wets (R : Row) (r : Nat) (m : Int32) : Row := upd R (12 + 5 * r + 1) (if 9 < R (12 + 5 * r + 1) + m then 9 else R (12 + 5 * r + 1) + m)
def o_wet (R : Row) (pl m : Int32) : Oc := match s_roofAt R pl with
  | none => oNo 1 R
  | some r => if inB m 1 9 = false then oNo 2 R
    else if R (12 + 5 * r + 3) = 1 then oRf 3 8 (R (12 + 5 * r + 0)) R
    else oOk (s_wets R r m (12 + 5 * r + 1)) (s_wets R r m)
def s_over (R : Row) (pl : Int32) : Option Nat := s_find (nB R) (fun b => R (52 + 7 * b + 0) == 1 && R (52 + 7 * b + 5) == pl)
def q_sign (R : Row) (pl : Int32) : Qa :=
  if inB pl 0 60 = false then (1, 32)
  else if (s_over R pl).isSome = true then (0, 111)
  else match s_roofAt R pl with
    | none => (0, 46)
    | some r => if R (12 + 5 * r + 3) = 1 then (0, 120) else if R (12 + 5 * r + 2) = 1 then (0, 82) else (0, 114)
theorem upd_s {f : Nat → Int32} {k : Nat} {v : Int32} : upd f k v k = v := by simp [upd]
theorem upd_n {f : Nat → Int32} {k j : Nat} {v : Int32} (h : j ≠ k) : upd f k v j = f j := by simp [upd, h]
theorem inB_t {v a b : Int32} : inB v a b = true ↔ a ≤ v ∧ v ≤ b := by simp [inB]
theorem inB_f {v a b : Int32} : inB v a b = false ↔ ¬ (a ≤ v ∧ v ≤ b) := by simp [inB]
theorem inB_nI {v : Int32} {n : Nat} (hn : n < 2 ^ 31) (h : inB v 0 (nI n) = true) : ∃ j, j ≤ n ∧ v = nI j := by
  obtain ⟨h1, h2⟩ := inB_t.mp h
  obtain ⟨j, hj, rfl⟩ := nI_of (x := v) (Int32.not_lt.mpr h1)
  exact ⟨j, (nI_leI hj hn).mp h2, rfl⟩
theorem s_roofAt_lt {R : Row} {pl : Int32} {r : Nat} (h : s_roofAt R pl = some r) : r < nR R := (s_find_is h).1
