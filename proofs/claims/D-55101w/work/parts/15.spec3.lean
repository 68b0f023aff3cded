/-! OUTCOMES, 2: balloons, crews, launches, plans, ranks -/
set_option maxRecDepth 100000
theorem inB_cnt {b : Int32} {n : Nat} (hn : n < 2 ^ 30) : inB b 0 (nI n - 1) = true ↔ ∃ i, i < n ∧ b = nI i := by
  constructor
  · intro h
    obtain ⟨h1, h2⟩ := inB_t.mp h
    obtain ⟨j, hj, rfl⟩ := nI_of (x := b) (Int32.not_lt.mpr h1)
    cases n with
    | zero =>
      exfalso
      have h3 : (nI j) ≤ (-1 : Int32) := h2
      have h4 : ¬ (nI j) < 0 := nI_pos hj
      exact h4 (Int32.lt_of_le_of_lt h3 (by decide))
    | succ n =>
      rw [nI_pred] at h2
      have := (nI_leI hj (by omega)).mp h2
      exact ⟨j, by omega, rfl⟩
  · rintro ⟨i, hi, rfl⟩
    cases n with
    | zero => omega
    | succ n =>
      rw [nI_pred]
      exact inB_t.mpr ⟨Int32.not_lt.mp (nI_pos (by omega)), nI_le (by omega) (by omega)⟩
def s_newBalloon (R : Row) (t w g : Int32) : Row :=
  upd (upd (upd (upd (upd (upd (upd (upd R (52 + 7 * nB R + 0) 0) (52 + 7 * nB R + 1) t) (52 + 7 * nB R + 2) w) (52 + 7 * nB R + 3) g) (52 + 7 * nB R + 4) (-1)) (52 + 7 * nB R + 5) (-1)) (52 + 7 * nB R + 6) 0) 2 (R 2 + 1)
def o_balloon (R : Row) (t w g : Int32) : Oc :=
  if inB t 1 9 = false then oNo 1 R
  else if inB w 1 30 = false then oNo 1 R
  else if inB g 0 9 = false then oNo 1 R
  else if R 2 = 20 then oRf 2 1 20 R
  else oOk (R 2) (s_newBalloon R t w g)
def s_newCrew (R : Row) (pl : Int32) : Row :=
  upd (upd (upd (upd R (192 + 3 * nC R + 0) pl) (192 + 3 * nC R + 1) 0) (192 + 3 * nC R + 2) 0) 3 (R 3 + 1)
def o_crew (R : Row) (pl : Int32) : Oc :=
  if inB pl 0 60 = false then oNo 1 R
  else if R 3 = 4 then oRf 2 1 4 R
  else oOk (R 3) (s_newCrew R pl)
def q_crewOf (R : Row) (c what : Int32) : Qa :=
  if inB c 0 (R 3 - 1) = false then (1, 0)
  else if inB what 0 2 = true then (0, R (192 + 3 * c.toNatClampNeg + what.toNatClampNeg)) else (2, 0)
def o_launch (R : Row) (b c : Int32) : Oc :=
  if inB b 0 (R 2 - 1) = false then oNo 1 R
  else if inB c 0 (R 3 - 1) = false then oNo 1 R
  else match s_refL R b.toNatClampNeg c.toNatClampNeg with
    | some w => oRf 2 w.1 w.2 R
    | none => oOk (R (192 + 3 * c.toNatClampNeg + 0)) (s_launches R b.toNatClampNeg c.toNatClampNeg)
def s_refP (R : Row) (b : Nat) (m : Int32) : Option (Int32 × Int32) :=
  if R 4 = 6 then some (1, 6)
  else if R (52 + 7 * b + 0) ≠ 0 then some (3, R (52 + 7 * b + 0))
  else match s_planOf R b with
    | some p => some (6, R (204 + 3 * p + 2))
    | none => if m < R 0 then some (7, R 0) else none
/-- where a plan goes in, from the end -/
def s_pos (R : Row) (b m : Int32) : Nat → Nat
  | 0 => 0
  | a + 1 => if m < R (204 + 3 * a + 2) ∨ (R (204 + 3 * a + 2) = m ∧ b < R (204 + 3 * a + 0)) then s_pos R b m a else a + 1
/-- the plans from place a on have moved down by one -/
def s_up (R : Row) (n a : Nat) : Row := fun j => if 204 + 3 * (a + 1) ≤ j ∧ j < 204 + 3 * (n + 1) then R (j - 3) else R j
def s_planIn (R : Row) (b c m : Int32) : Row :=
  upd (upd (upd (upd (s_up R (nP R) (s_pos R b m (nP R))) (204 + 3 * s_pos R b m (nP R) + 0) b) (204 + 3 * s_pos R b m (nP R) + 1) c) (204 + 3 * s_pos R b m (nP R) + 2) m) 4 (R 4 + 1)
def o_plan (R : Row) (b c m : Int32) : Oc :=
  if inB b 0 (R 2 - 1) = false then oNo 1 R
  else if inB c 0 (R 3 - 1) = false then oNo 1 R
  else if inB m 0 9999 = false then oNo 2 R
  else match s_refP R b.toNatClampNeg m with
    | some w => oRf 3 w.1 w.2 R
    | none => oOk (nI (s_pos R b m (nP R))) (s_planIn R b c m)
def o_drop (R : Row) (b : Int32) : Oc :=
  if inB b 0 (R 2 - 1) = false then oNo 1 R
  else match s_planOf R b.toNatClampNeg with
    | none => oNo 2 R
    | some p => oOk (R 4 - 1) (s_planGoes R p)
def q_planAt (R : Row) (p what : Int32) : Qa :=
  if inB p 0 (R 4 - 1) = false then (1, 0)
  else if inB what 0 2 = true then (0, R (204 + 3 * p.toNatClampNeg + what.toNatClampNeg)) else (2, 0)
def q_balloonOf (R : Row) (b what : Int32) : Qa :=
  if inB b 0 (R 2 - 1) = false then (1, 0)
  else if inB what 0 6 = true then (0, R (52 + 7 * b.toNatClampNeg + what.toNatClampNeg)) else (2, 0)
/-- the flying balloons of layer l from number b on -/
def s_lv (R : Row) (l b : Nat) : List Nat := ((List.range (nB R)).drop b).filter (fun b => R (52 + 7 * b + 0) == 1 && R (52 + 7 * b + 4) == nI l)
/-- .. of the layers below l -/
def s_lw (R : Row) : Nat → List Nat
  | 0 => []
  | l + 1 => s_lv R l 0 ++ s_lw R l
def s_hi : List Nat → Int32 → Option Nat
  | [], _ => none
  | b :: r, k => if k = 0 then some b else s_hi r (k - 1)
def q_highest (R : Row) (p : Int32) : Qa := match s_hi (s_lw R 4) p with
  | some b => (0, nI b)
  | none => (1, 0)
def s_rank (R : Row) (b : Nat) : Int32 := s_sum (nB R) (fun o => if R (52 + 7 * b + 6) < R (52 + 7 * o + 6) ∨ (R (52 + 7 * o + 6) = R (52 + 7 * b + 6) ∧ o < b) then 1 else 0)
def q_ranked (R : Row) (p : Int32) : Qa := match s_find (nB R) (fun b => s_rank R b == p) with
  | some b => (0, nI b)
  | none => (1, 0)
theorem s_lv_end {R : Row} {l : Nat} : s_lv R l (nB R) = [] := by unfold s_lv; rw [List.drop_eq_nil_of_le (by simp)]; rfl
theorem s_lv_cons {R : Row} {l b : Nat} (hb : b < nB R) : s_lv R l b = if R (52 + 7 * b + 0) = 1 ∧ R (52 + 7 * b + 4) = nI l then b :: s_lv R l (b + 1) else s_lv R l (b + 1) := by
  unfold s_lv
  rw [List.drop_eq_getElem_cons (by simpa using hb), List.getElem_range, List.filter_cons]
  by_cases h : R (52 + 7 * b + 0) = 1 ∧ R (52 + 7 * b + 4) = nI l
  · rw [if_pos h, if_pos (by rw [h.1, h.2]; simp)]
  · rw [if_neg h, if_neg (by simpa using h)]
/-- rows of plans, in the making -/
def s_mv (R : Row) (f t k : Nat) : Row := fun j => if 204 + 3 * t ≤ j ∧ j < 204 + 3 * t + k then R (j - (204 + 3 * t) + (204 + 3 * f)) else R j
theorem s_mv_0 {R : Row} {f t : Nat} : s_mv R f t 0 = R := by funext j; simp only [s_mv]; rw [if_neg (by omega)]
theorem s_mv_s {R : Row} {f t k : Nat} (hft : f ≠ t) (hk : k < 3) : upd (s_mv R f t k) (204 + 3 * t + k) (s_mv R f t k (204 + 3 * f + k)) = s_mv R f t (k + 1) := by
  funext j
  simp only [upd, s_mv]
  by_cases e : j = 204 + 3 * t + k
  · rw [if_pos e, if_neg (by omega), if_pos (by omega)]
    congr 1; omega
  · rw [if_neg e]
    by_cases e2 : 204 + 3 * t ≤ j ∧ j < 204 + 3 * t + k
    · rw [if_pos e2, if_pos (by omega)]
    · rw [if_neg e2, if_neg (by omega)]
def s_pg (R : Row) (p o k : Nat) : Row := fun j => if j = 4 then R 4 - 1 else if 204 + 3 * p ≤ j ∧ j < 204 + 3 * o then R (j + 3) else if 204 + 3 * o ≤ j ∧ j < 204 + 3 * o + k then 0 else R j
theorem s_pg_0 {R : Row} {p : Nat} : upd R 4 (R 4 - 1) = s_pg R p p 0 := by
  funext j
  simp only [upd, s_pg]
  by_cases e : j = 4
  · rw [if_pos e, if_pos e]
  · rw [if_neg e, if_neg e, if_neg (by omega), if_neg (by omega)]
theorem s_pg_o {R : Row} {p o : Nat} (hp : p ≤ o) : s_mv (s_pg R p o 0) (o + 1) o 3 = s_pg R p (o + 1) 0 := by
  funext j
  simp only [s_mv, s_pg]
  by_cases e : 204 + 3 * o ≤ j ∧ j < 204 + 3 * o + 3
  · rw [if_pos e, if_neg (by omega), if_neg (by omega), if_neg (by omega), if_neg (by omega), if_pos (by omega)]
    congr 1; omega
  · rw [if_neg e]
    by_cases e4 : j = 4
    · rw [if_pos e4, if_pos e4]
    · rw [if_neg e4, if_neg e4]
      by_cases e2 : 204 + 3 * p ≤ j ∧ j < 204 + 3 * o
      · rw [if_pos e2, if_pos (by omega)]
      · rw [if_neg e2, if_neg (by omega), if_neg (by omega), if_neg (by omega)]
theorem s_pg_k {R : Row} {p o k : Nat} (hp : p ≤ o) : upd (s_pg R p o k) (204 + 3 * o + k) 0 = s_pg R p o (k + 1) := by
  funext j
  simp only [upd, s_pg]
  by_cases e : j = 204 + 3 * o + k
  · rw [if_pos e, if_neg (by omega), if_neg (by omega), if_pos (by omega)]
  · rw [if_neg e]
    by_cases e4 : j = 4
    · rw [if_pos e4, if_pos e4]
    · rw [if_neg e4, if_neg e4]
      by_cases e2 : 204 + 3 * p ≤ j ∧ j < 204 + 3 * o
      · rw [if_pos e2, if_pos e2]
      · rw [if_neg e2, if_neg e2]
        by_cases e3 : 204 + 3 * o ≤ j ∧ j < 204 + 3 * o + k
        · rw [if_pos e3, if_pos (by omega)]
        · rw [if_neg e3, if_neg (by omega)]
theorem s_pg_end {R : Row} {p n : Nat} (hn : nP R = n + 1) (hp : p ≤ n) : s_pg R p n 3 = s_planGoes R p := by
  funext j
  simp only [s_pg, s_planGoes, hn]
  by_cases e4 : j = 4
  · rw [if_pos e4, if_pos e4]
  · rw [if_neg e4, if_neg e4]
    by_cases e2 : 204 + 3 * p ≤ j ∧ j < 204 + 3 * n
    · rw [if_pos e2, if_pos (by omega)]
    · by_cases e3 : 204 + 3 * n ≤ j ∧ j < 204 + 3 * n + 3
      · rw [if_neg e2, if_pos e3, if_neg (by omega), if_pos (by omega)]
      · rw [if_neg e2, if_neg e3, if_neg (by omega), if_neg (by omega)]
theorem s_up_0 {R : Row} {n : Nat} : s_up R n n = R := by funext j; simp only [s_up]; rw [if_neg (by omega)]
theorem s_up_s {R : Row} {n a : Nat} (ha : a < n) : s_mv (s_up R n (a + 1)) a (a + 1) 3 = s_up R n a := by
  funext j
  simp only [s_mv, s_up]
  by_cases e : 204 + 3 * (a + 1) ≤ j ∧ j < 204 + 3 * (a + 1) + 3
  · rw [if_pos e, if_neg (by omega), if_pos (by omega)]
    congr 1; omega
  · rw [if_neg e]
    by_cases e2 : 204 + 3 * (a + 1 + 1) ≤ j ∧ j < 204 + 3 * (n + 1)
    · rw [if_pos e2, if_pos (by omega)]
    · rw [if_neg e2, if_neg (by omega)]
theorem s_pos_le {R : Row} {b m : Int32} : ∀ a, s_pos R b m a ≤ a
  | 0 => Nat.le_refl _
  | a + 1 => by
    unfold s_pos
    split
    · exact Nat.le_succ_of_le (s_pos_le a)
    · exact Nat.le_refl _
