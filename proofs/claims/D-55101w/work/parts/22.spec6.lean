/-! OUTCOMES, 3: minutes, minutes ahead -/
set_option maxRecDepth 100000
theorem s_balls_y {R : Row} {n : Nat} (h : (s_balls n R).1 (52 + 7 * n + 0) = 1) : s_balls (n + 1) R = (s_fliesOn (s_balls n R).1 n, (s_balls n R).2 + (if s_fliesOn (s_balls n R).1 n (52 + 7 * n + 0) = 1 then 0 else 1)) := by
  show s_ball (s_balls n R) n = _
  unfold s_ball
  rw [if_pos h]
theorem s_balls_n {R : Row} {n : Nat} (h : ¬ (s_balls n R).1 (52 + 7 * n + 0) = 1) : s_balls (n + 1) R = s_balls n R := by
  show s_ball (s_balls n R) n = _
  unfold s_ball
  rw [if_neg h]
theorem s_crews_0 {R : Row} : s_crews R 0 = R := by funext j; simp only [s_crews]; rw [if_neg (by omega)]
theorem s_dry_0 {R : Row} : s_dry R 0 = R := by funext j; simp only [s_dry]; rw [if_neg (by omega)]
theorem s_crews_s {R : Row} {i : Nat} : upd (s_crews R i) (192 + 3 * i + 1) (if s_crews R i (192 + 3 * i + 1) - 1 < 0 then 0 else s_crews R i (192 + 3 * i + 1) - 1) = s_crews R (i + 1) := by
  rw [s_crews_at (by decide), if_neg (show ¬ (i < i ∧ 1 = 1) by omega)]
  funext j
  simp only [upd, s_crews]
  by_cases e : j = 192 + 3 * i + 1
  · rw [if_pos e, if_pos (show 192 ≤ j ∧ j < 192 + 3 * (i + 1) ∧ (j - 192) % 3 = 1 by omega), e]
  · rw [if_neg e]
    by_cases e2 : 192 ≤ j ∧ j < 192 + 3 * i ∧ (j - 192) % 3 = 1
    · rw [if_pos e2, if_pos (show 192 ≤ j ∧ j < 192 + 3 * (i + 1) ∧ (j - 192) % 3 = 1 by omega)]
    · rw [if_neg e2, if_neg (show ¬ (192 ≤ j ∧ j < 192 + 3 * (i + 1) ∧ (j - 192) % 3 = 1) by omega)]
theorem s_dry_s {R : Row} {i : Nat} : upd (s_dry R i) (12 + 5 * i + 1) (if s_dry R i (12 + 5 * i + 1) - 1 < 0 then 0 else s_dry R i (12 + 5 * i + 1) - 1) = s_dry R (i + 1) := by
  rw [s_dry_at (by decide), if_neg (show ¬ (i < i ∧ 1 = 1) by omega)]
  funext j
  simp only [upd, s_dry]
  by_cases e : j = 12 + 5 * i + 1
  · rw [if_pos e, if_pos (show 12 ≤ j ∧ j < 12 + 5 * (i + 1) ∧ (j - 12) % 5 = 1 by omega), e]
  · rw [if_neg e]
    by_cases e2 : 12 ≤ j ∧ j < 12 + 5 * i ∧ (j - 12) % 5 = 1
    · rw [if_pos e2, if_pos (show 12 ≤ j ∧ j < 12 + 5 * (i + 1) ∧ (j - 12) % 5 = 1 by omega)]
    · rw [if_neg e2, if_neg (show ¬ (12 ≤ j ∧ j < 12 + 5 * (i + 1) ∧ (j - 12) % 5 = 1) by omega)]
def o_pass (R : Row) (m : Int32) : Oc := if inB m 1 60 = false then oNo 1 R else oOk (s_goes m.toNatClampNeg R).2 (s_goes m.toNatClampNeg R).1
/-- what is asked of a flying balloon -/
def q_fly (R : Row) (b m M : Int32) (f : Nat → Int32) : Qa :=
  if inB b 0 (R 2 - 1) = false then (1, 0)
  else if inB m 0 M = false then (2, 0)
  else if ¬ R (52 + 7 * b.toNatClampNeg + 0) = 1 then (3, 0)
  else (0, f b.toNatClampNeg)
def s_layIn (R : Row) (m : Int32) (b : Nat) : Int32 :=
  let up := if m < R (52 + 7 * b + 2) then m else R (52 + 7 * b + 2)
  let x := (if 3 < R (52 + 7 * b + 4) + up then 3 else R (52 + 7 * b + 4) + up) - (m - up)
  if x < -1 then -1 else x
def s_again : Nat → Int32 → Int32 → Int32
  | 0, l, _ => l
  | n + 1, l, w => if l < 0 then l else if 0 < w then s_again n (if 3 < l + 1 then 3 else l + 1) (w - 1) else s_again n (l - 1) (w - 1)
theorem s_again_neg {l w : Int32} (h : l < 0) : ∀ n, s_again n l w = l
  | 0 => rfl
  | n + 1 => by unfold s_again; rw [if_pos h]
def q_layerIn (R : Row) (b m : Int32) : Qa := q_fly R b m 40 (s_layIn R m)
def q_layerAgain (R : Row) (b m : Int32) : Qa := q_fly R b m 40 fun i => s_again m.toNatClampNeg (R (52 + 7 * i + 4)) (R (52 + 7 * i + 2))
/-- minutes till balloon b does not fly any more -/
def s_out (b : Nat) : Nat → Row → Nat × Row
  | 0, R => (0, R)
  | n + 1, R => if R (52 + 7 * b + 0) = 1 then ((s_out b n (s_minute R).1).1 + 1, (s_out b n (s_minute R).1).2) else (0, R)
def q_would (R : Row) (b what : Int32) : Qa := q_fly R b what 2 fun i => let q := s_out i 40 R; if what = 0 then nI q.1 else if what = 1 then q.2 (52 + 7 * i + 0) else q.2 (52 + 7 * i + 5)
theorem s_plansNow_b {b : Nat} (hb : b < 20) : ∀ n {R : Row}, RI R → nP R = n → R (52 + 7 * b + 0) = 1 → ∀ j, j < 7 → s_plansNow n R (52 + 7 * b + j) = R (52 + 7 * b + j)
  | 0, _, _, _, _, _, _ => rfl
  | n + 1, R, h, hn, hs, j, hj => by
    unfold s_plansNow
    split
    · obtain ⟨h1, h2⟩ := nP_planNow h hn
      have e : ∀ k, k < 7 → s_planNow R (52 + 7 * b + k) = R (52 + 7 * b + k) := by
        intro k hk
        obtain ⟨b', c', g1, g2, g3, g4⟩ := h.plan0 hn
        have h28 := h.h28
        have h38 := h.h38
        rw [s_planNow_eq g1 (by omega) g3 (by omega), s_planGoes_lo (by omega) (by omega)]
        cases hr : s_refL R b' c' with
        | some w => rw [if_pos (show (some w).isSome = true from rfl)]; exact upd_n (by omega)
        | none =>
          rw [if_neg (by simp)]
          have hne : b' ≠ b := by
            rintro rfl
            rw [(refL_none hr).1] at hs
            exact absurd hs (by decide)
          exact s_launches_n (by omega) (by omega) (by omega) (by omega) (by omega) (by omega)
      rw [s_plansNow_b hb n h1 h2 (by rw [e 0 (by decide)]; exact hs) j hj, e j hj]
    · rfl
/-- a minute of a flying balloon counts -/
theorem s_minute_flew {R : Row} {b : Nat} (h : RI R) (hb : b < nB R) (hs : R (52 + 7 * b + 0) = 1) : (s_minute R).1 (52 + 7 * b + 6) = R (52 + 7 * b + 6) + 1 ∧ nB (s_minute R).1 = nB R := by
  have h28 := h.h28
  have hp := s_plansNow_b (b := b) (by omega) _ h rfl hs
  have h1 := h.plansNow _ rfl
  have e2 : nB (s_plansNow (nP R) R) = nB R := nB_of (s_plansNow_lo (by decide) _)
  unfold s_minute
  simp only
  generalize hR1 : s_plansNow (nP R) R = R1 at *
  have hb1 : b < nB R1 := by omega
  have hB := s_balls_ok h1 _ (Nat.le_refl _)
  have g3 : ∀ n, b < n → n ≤ nB R1 → (s_balls n R1).1 (52 + 7 * b + 6) = R (52 + 7 * b + 6) + 1 := by
    intro n
    induction n with
    | zero => intro hb2 _; exact absurd hb2 (Nat.not_lt_zero _)
    | succ n ih =>
      intro hb2 hn
      obtain ⟨k1, k2⟩ := s_balls_ok h1 n (by omega)
      have k3 := nB_of (k2 2 (by decide) (by decide))
      by_cases e : b = n
      · subst e
        have hh := s_balls_hi h1 b (by omega)
        have k4 : (s_balls b R1).1 (52 + 7 * b + 0) = 1 := by rw [hh _ (by omega), hp 0 (by decide)]; exact hs
        rw [s_balls_y k4]
        show s_fliesOn _ _ _ = _
        rw [(fliesOn_ok k1.h18 k4 (k1.ba b (by omega))).2.2, hh _ (by omega), hp 6 (by decide)]
      · show (s_ball (s_balls n R1) n).1 _ = _
        rw [(s_ball_ok k1 (by omega)).2.hi _ (by omega) (by omega)]
        exact ih (by omega) (by omega)
  have hc4 := hB.1.h38
  have hr8 := (hB.1.crews hc4).h18
  have cr : ∀ j, j < 192 → s_crews (s_balls (nB R1) R1).1 (nC (s_balls (nB R1) R1).1) j = (s_balls (nB R1) R1).1 j := fun j hj => s_crews_n (Or.inl hj) hc4
  constructor
  · rw [upd_n (by omega)]
    split
    · rw [s_dry_n (by omega) hr8, cr _ (by omega)]
      exact g3 _ hb1 (Nat.le_refl _)
    · rw [cr _ (by omega)]
      exact g3 _ hb1 (Nat.le_refl _)
  · rw [nB_of (R := R1), e2]
    rw [upd_n (by decide)]
    split
    · rw [s_dry_n (by omega) hr8, cr _ (by omega), hB.2 _ (by decide) (by decide)]
    · rw [cr _ (by omega), hB.2 _ (by decide) (by decide)]
