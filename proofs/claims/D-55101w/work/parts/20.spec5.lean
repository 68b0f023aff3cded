/-! THE ROW's INVARIANT, 2: launches, plans, minutes -/
set_option maxRecDepth 100000
theorem RI.cr_r {R R' : Row} (h : RI R) (h1 : R' 1 = R 1) (hh : ∀ j, 12 ≤ j → j < 52 → R' j = R j) : (R' 1 = nI (nR R')) ∧ (nR R' ≤ 8) ∧ (∀ r, r < nR R' → okRoof (R' (12 + 5 * r + 0)) (R' (12 + 5 * r + 1)) (R' (12 + 5 * r + 2)) (R' (12 + 5 * r + 3))) ∧ (∀ r r', r < nR R' → r' < nR R' → R' (12 + 5 * r + 0) = R' (12 + 5 * r' + 0) → r = r') := by
  have e := nR_of h1
  have h18 := h.h18
  rw [e, h1]
  refine ⟨h.h1, h.h18, fun r hr => ?_, fun r r' hr hr' he => ?_⟩
  · rw [hh _ (by omega) (by omega), hh _ (by omega) (by omega), hh _ (by omega) (by omega), hh _ (by omega) (by omega)]
    exact h.rf r hr
  · rw [hh _ (by omega) (by omega), hh _ (by omega) (by omega)] at he
    exact h.rd r r' hr hr' he
theorem RI.cr_b {R R' : Row} (h : RI R) (h1 : R' 2 = R 2) (hh : ∀ j, 52 ≤ j → j < 192 → R' j = R j) : (R' 2 = nI (nB R')) ∧ (nB R' ≤ 20) ∧ (∀ b, b < nB R' → okBall (R' (52 + 7 * b + 0)) (R' (52 + 7 * b + 2)) (R' (52 + 7 * b + 4)) (R' (52 + 7 * b + 5)) (R' (52 + 7 * b + 6))) ∧ s_lau R' (nB R') = s_lau R (nB R) := by
  have e := nB_of h1
  have h28 := h.h28
  rw [e, h1]
  refine ⟨h.h2, h.h28, fun r hr => ?_, s_lau_c _ fun b hb => ?_⟩
  · rw [hh _ (by omega) (by omega), hh _ (by omega) (by omega), hh _ (by omega) (by omega), hh _ (by omega) (by omega), hh _ (by omega) (by omega)]
    exact h.ba r hr
  · rw [hh _ (by omega) (by omega)]
theorem RI.cr_c {R R' : Row} (h : RI R) (h1 : R' 3 = R 3) (hh : ∀ j, 192 ≤ j → j < 204 → R' j = R j) : (R' 3 = nI (nC R')) ∧ (nC R' ≤ 4) ∧ (∀ c, c < nC R' → okCrew (R' (192 + 3 * c + 0)) (R' (192 + 3 * c + 1))) := by
  have e := nC_of h1
  have h38 := h.h38
  rw [e, h1]
  refine ⟨h.h3, h.h38, fun r hr => ?_⟩
  rw [hh _ (by omega) (by omega), hh _ (by omega) (by omega)]
  exact h.cr r hr
theorem okPlan.le {n m n' m' : Nat} {b c t : Int32} (h : okPlan n m b c t) (hn : n ≤ n') (hm : m ≤ m') : okPlan n' m' b c t := by
  obtain ⟨⟨b', h1, h2⟩, ⟨c', h3, h4⟩, h5⟩ := h
  exact ⟨⟨b', h1, by omega⟩, ⟨c', h3, by omega⟩, h5⟩
theorem RI.cr_p {R R' : Row} (h : RI R) (h1 : R' 4 = R 4) (hn : nB R ≤ nB R') (hm : nC R ≤ nC R') (hh : ∀ j, 204 ≤ j → j < 222 → R' j = R j) : (R' 4 = nI (nP R')) ∧ (nP R' ≤ 6) ∧ (∀ p, p < nP R' → okPlan (nB R') (nC R') (R' (204 + 3 * p + 0)) (R' (204 + 3 * p + 1)) (R' (204 + 3 * p + 2))) ∧ (∀ p q, p < q → q < nP R' → planLt (R' (204 + 3 * p + 2)) (R' (204 + 3 * p + 0)) (R' (204 + 3 * q + 2)) (R' (204 + 3 * q + 0))) := by
  have e := nP_of h1
  have h48 := h.h48
  rw [e, h1]
  refine ⟨h.h4, h.h48, fun r hr => ?_, fun p q hpq hq => ?_⟩
  · rw [hh _ (by omega) (by omega), hh _ (by omega) (by omega), hh _ (by omega) (by omega)]
    exact (h.pl r hr).le hn hm
  · rw [hh _ (by omega) (by omega), hh _ (by omega) (by omega), hh _ (by omega) (by omega), hh _ (by omega) (by omega)]
    exact h.ps p q hpq hq
/-- only the counters change -/
theorem RI.low {R R' : Row} (h : RI R) (hh : ∀ j, j < 222 → j ≠ 0 → j ≠ 5 → j ≠ 7 → (j < 8 ∨ 12 ≤ j) → R' j = R j) : RI R' := by
  have a := h.cr_r (hh 1 (by decide) (by decide) (by decide) (by decide) (by decide)) (fun j h1 h2 => hh j (by omega) (by omega) (by omega) (by omega) (by omega))
  have b := h.cr_b (hh 2 (by decide) (by decide) (by decide) (by decide) (by decide)) (fun j h1 h2 => hh j (by omega) (by omega) (by omega) (by omega) (by omega))
  have c := h.cr_c (hh 3 (by decide) (by decide) (by decide) (by decide) (by decide)) (fun j h1 h2 => hh j (by omega) (by omega) (by omega) (by omega) (by omega))
  have d := h.cr_p (hh 4 (by decide) (by decide) (by decide) (by decide) (by decide)) (Nat.le_of_eq (nB_of (hh 2 (by decide) (by decide) (by decide) (by decide) (by decide))).symm) (Nat.le_of_eq (nC_of (hh 3 (by decide) (by decide) (by decide) (by decide) (by decide))).symm) (fun j h1 h2 => hh j (by omega) (by omega) (by omega) (by omega) (by omega))
  exact ⟨a.1, a.2.1, b.1, b.2.1, c.1, c.2.1, d.1, d.2.1, a.2.2.1, a.2.2.2, b.2.2.1, c.2.2, d.2.2.1, d.2.2.2, by rw [b.2.2.2, hh 6 (by decide) (by decide) (by decide) (by decide) (by decide)]; exact h.la⟩
theorem s_lau_s {R R' : Row} {b : Nat} (h0 : R (52 + 7 * b + 0) = 0) (h1 : R' (52 + 7 * b + 0) ≠ 0) : ∀ n, b < n → (∀ b', b' < n → b' ≠ b → R' (52 + 7 * b' + 0) = R (52 + 7 * b' + 0)) → s_lau R' n = s_lau R n + 1
  | 0, h, _ => absurd h (Nat.not_lt_zero _)
  | n + 1, h, hh => by
    unfold s_lau
    by_cases e : b = n
    · subst e
      rw [if_pos h0, if_neg h1, s_lau_c (R := R) (R' := R') b fun b' hb' => by rw [hh b' (by omega) (by omega)]]
    · rw [s_lau_s h0 h1 n (by omega) (fun b' hb' => hh b' (by omega)), hh n (by omega) (fun x => e x.symm)]
      omega
theorem refL_none {R : Row} {b c : Nat} (h : s_refL R b c = none) : R (52 + 7 * b + 0) = 0 ∧ ¬ 0 < R (192 + 3 * c + 1) := by
  unfold s_refL at h
  by_cases e : R (52 + 7 * b + 0) ≠ 0
  · rw [if_pos e] at h; cases h
  · rw [if_neg e] at h
    by_cases e2 : 0 < R (192 + 3 * c + 1)
    · rw [if_pos e2] at h; cases h
    · exact ⟨by simpa using e, e2⟩
theorem s_launches_n {R : Row} {b c j : Nat} (h0 : j ≠ 52 + 7 * b + 0) (h4 : j ≠ 52 + 7 * b + 4) (h5 : j ≠ 52 + 7 * b + 5) (k1 : j ≠ 192 + 3 * c + 1) (k2 : j ≠ 192 + 3 * c + 2) (h6 : j ≠ 6) : s_launches R b c j = R j := by
  unfold s_launches
  rw [upd_n h6, upd_n k2, upd_n k1, upd_n h5, upd_n h4, upd_n h0]
theorem RI.launches {R : Row} {b c : Nat} (h : RI R) (hb : b < nB R) (hc : c < nC R) (hn : s_refL R b c = none) : RI (s_launches R b c) := by
  have h28 := h.h28
  have h38 := h.h38
  obtain ⟨hs0, -⟩ := refL_none hn
  obtain ⟨⟨p, hp, hp6⟩, k, hk, hk4⟩ := h.cr c hc
  obtain ⟨s, w, f, e0, hs4, e2, hw, e6, hf, hf0, -⟩ := h.ba b hb
  have hs : s = 0 := (nI_eq (by omega) (by decide)).mp (e0.symm.trans hs0)
  have hf' := hf0 hs
  subst hf'
  have v0 : s_launches R b c (52 + 7 * b + 0) = 1 := by unfold s_launches; simp (disch := omega) only [upd_n, upd_s]
  have v4 : s_launches R b c (52 + 7 * b + 4) = 0 := by unfold s_launches; simp (disch := omega) only [upd_n, upd_s]
  have v5 : s_launches R b c (52 + 7 * b + 5) = R (192 + 3 * c + 0) := by unfold s_launches; simp (disch := omega) only [upd_n, upd_s]
  have w1 : s_launches R b c (192 + 3 * c + 1) = 4 := by unfold s_launches; simp (disch := omega) only [upd_n, upd_s]
  have w6 : s_launches R b c 6 = R 6 + 1 := by unfold s_launches; simp (disch := omega) only [upd_s]
  have n1 : ∀ j, j < 12 → j ≠ 6 → s_launches R b c j = R j := fun j h1 h2 => s_launches_n (by omega) (by omega) (by omega) (by omega) (by omega) h2
  have e1 := nB_of (n1 2 (by decide) (by decide))
  have e3 := nC_of (n1 3 (by decide) (by decide))
  have a := h.cr_r (n1 1 (by decide) (by decide)) (fun j h1 h2 => s_launches_n (R := R) (b := b) (c := c) (by omega) (by omega) (by omega) (by omega) (by omega) (by omega))
  have d := h.cr_p (n1 4 (by decide) (by decide)) (Nat.le_of_eq e1.symm) (Nat.le_of_eq e3.symm) (fun j h1 h2 => s_launches_n (R := R) (b := b) (c := c) (by omega) (by omega) (by omega) (by omega) (by omega) (by omega))
  refine ⟨a.1, a.2.1, by rw [e1, n1 2 (by decide) (by decide)]; exact h.h2, by rw [e1]; exact h28, by rw [e3, n1 3 (by decide) (by decide)]; exact h.h3, by rw [e3]; exact h38, d.1, d.2.1, a.2.2.1, a.2.2.2, fun b' hb' => ?_, fun c' hc' => ?_, d.2.2.1, d.2.2.2, ?_⟩
  · rw [e1] at hb'
    by_cases e : b' = b
    · subst e
      rw [v0, v4, v5, s_launches_n (by omega) (by omega) (by omega) (by omega) (by omega) (by omega), s_launches_n (by omega) (by omega) (by omega) (by omega) (by omega) (by omega)]
      exact ⟨1, w, 0, rfl, by decide, e2, hw, e6, by decide, fun _ => rfl, fun _ => ⟨0, p, rfl, by decide, hp, hp6, by omega, fun _ => by omega⟩⟩
    · rw [s_launches_n (by omega) (by omega) (by omega) (by omega) (by omega) (by omega), s_launches_n (by omega) (by omega) (by omega) (by omega) (by omega) (by omega), s_launches_n (by omega) (by omega) (by omega) (by omega) (by omega) (by omega), s_launches_n (by omega) (by omega) (by omega) (by omega) (by omega) (by omega), s_launches_n (by omega) (by omega) (by omega) (by omega) (by omega) (by omega)]
      exact h.ba b' hb'
  · rw [e3] at hc'
    by_cases e : c' = c
    · subst e
      rw [w1, s_launches_n (by omega) (by omega) (by omega) (by omega) (by omega) (by omega)]
      exact ⟨⟨p, hp, hp6⟩, 4, rfl, by decide⟩
    · rw [s_launches_n (by omega) (by omega) (by omega) (by omega) (by omega) (by omega), s_launches_n (by omega) (by omega) (by omega) (by omega) (by omega) (by omega)]
      exact h.cr c' hc'
  · rw [e1, w6, h.la, nI_1, s_lau_s (R := R) (b := b) hs0 (by rw [v0]; decide) _ hb (fun b' h1 h2 => s_launches_n (by omega) (by omega) (by omega) (by omega) (by omega) (by omega))]
theorem s_planGoes_lo {R : Row} {p j : Nat} (h : j < 204) (h4 : j ≠ 4) : s_planGoes R p j = R j := by
  simp only [s_planGoes]
  rw [if_neg h4, if_neg (by omega), if_neg (by omega)]
theorem s_planGoes_at {R : Row} {p q j : Nat} (hq : q + 1 < nP R) (hj : j < 3) : s_planGoes R p (204 + 3 * q + j) = R (204 + 3 * (if q < p then q else q + 1) + j) := by
  simp only [s_planGoes]
  rw [if_neg (by omega)]
  by_cases e : q < p
  · rw [if_pos e, if_neg (by omega), if_neg (by omega)]
  · rw [if_neg e, if_pos (by omega)]
    congr 1; omega
theorem nP_goes {R : Row} {p n : Nat} (h4 : R 4 = nI (nP R)) (hn : nP R = n + 1) (h48 : nP R ≤ 6) : nP (s_planGoes R p) = n ∧ s_planGoes R p 4 = nI n := by
  have e : s_planGoes R p 4 = nI n := by
    unfold s_planGoes
    rw [if_pos rfl, h4, hn, nI_pred]
  exact ⟨by unfold nP; rw [e, nI_clamp (by omega)], e⟩
theorem RI.planGoes {R : Row} {p : Nat} (h : RI R) (hp : p < nP R) : RI (s_planGoes R p) := by
  obtain ⟨n, hn⟩ : ∃ n, nP R = n + 1 := ⟨nP R - 1, by omega⟩
  have h48 := h.h48
  obtain ⟨e4, e4'⟩ := nP_goes (p := p) h.h4 hn h48
  have lo : ∀ j, j < 204 → j ≠ 4 → s_planGoes R p j = R j := fun j h1 h2 => s_planGoes_lo h1 h2
  have e2 := nB_of (lo 2 (by decide) (by decide))
  have e3 := nC_of (lo 3 (by decide) (by decide))
  have a := h.cr_r (lo 1 (by decide) (by decide)) (fun j h1 h2 => lo j (by omega) (by omega))
  have b := h.cr_b (lo 2 (by decide) (by decide)) (fun j h1 h2 => lo j (by omega) (by omega))
  have c := h.cr_c (lo 3 (by decide) (by decide)) (fun j h1 h2 => lo j (by omega) (by omega))
  refine ⟨a.1, a.2.1, b.1, b.2.1, c.1, c.2.1, by rw [e4, e4'], by omega, a.2.2.1, a.2.2.2, b.2.2.1, c.2.2, fun q hq => ?_, fun q q' hqq hq => ?_, by rw [b.2.2.2, lo 6 (by decide) (by decide)]; exact h.la⟩
  · rw [e2, e3, s_planGoes_at (by omega) (by decide), s_planGoes_at (by omega) (by decide), s_planGoes_at (by omega) (by decide)]
    exact h.pl _ (by split <;> omega)
  · rw [s_planGoes_at (by omega) (by decide), s_planGoes_at (by omega) (by decide), s_planGoes_at (by omega) (by decide), s_planGoes_at (by omega) (by decide)]
    exact h.ps _ _ (by split <;> split <;> omega) (by split <;> omega)
/-- who is on the first plan -/
theorem RI.plan0 {R : Row} {n : Nat} (h : RI R) (hn : nP R = n + 1) : ∃ b c, R 204 = nI b ∧ b < nB R ∧ R 205 = nI c ∧ c < nC R := by
  obtain ⟨⟨b, h1, h2⟩, ⟨c, h3, h4⟩, -⟩ := h.pl 0 (by omega)
  exact ⟨b, c, h1, h2, h3, h4⟩
theorem RI.missed {R : Row} {v : Int32} (h : RI R) : RI (upd R 5 v) := h.low fun j _ _ h5 _ _ => upd_n h5
theorem s_planNow_eq {R : Row} {b c : Nat} (h1 : R 204 = nI b) (hb : b < 20) (h3 : R 205 = nI c) (hc : c < 4) : s_planNow R = s_planGoes (if (s_refL R b c).isSome then upd R 5 (R 5 + 1) else s_launches R b c) 0 := by
  unfold s_planNow
  simp only
  rw [h1, h3, nI_clamp (by omega), nI_clamp (by omega)]
theorem nP_planNow {R : Row} {n : Nat} (h : RI R) (hn : nP R = n + 1) : RI (s_planNow R) ∧ nP (s_planNow R) = n := by
  obtain ⟨b, c, h1, hb, h3, hc⟩ := h.plan0 hn
  have h28 := h.h28
  have h38 := h.h38
  rw [s_planNow_eq h1 (by omega) h3 (by omega)]
  cases hr : s_refL R b c with
  | some w =>
    rw [if_pos (show (some w).isSome = true from rfl)]
    have hk := h.missed (v := R 5 + 1)
    have e : nP (upd R 5 (R 5 + 1)) = n + 1 := by rw [nP_of (R := R) (upd_n (by decide)), hn]
    exact ⟨hk.planGoes (by omega), (nP_goes hk.h4 e hk.h48).1⟩
  | none =>
    rw [if_neg (by simp)]
    have hk := h.launches hb hc hr
    have e : nP (s_launches R b c) = n + 1 := by rw [nP_of (R := R) (s_launches_n (by omega) (by omega) (by omega) (by omega) (by omega) (by omega)), hn]
    exact ⟨hk.planGoes (by omega), (nP_goes hk.h4 e hk.h48).1⟩
theorem RI.plansNow : ∀ n {R : Row}, RI R → nP R = n → RI (s_plansNow n R)
  | 0, _, h, _ => h
  | n + 1, R, h, hn => by
    unfold s_plansNow
    split
    · obtain ⟨h1, h2⟩ := nP_planNow h hn
      exact RI.plansNow n h1 h2
    · exact h
/-- the counts and the minute stay -/
def sm3 (R R' : Row) : Prop := R' 0 = R 0 ∧ R' 1 = R 1 ∧ R' 2 = R 2 ∧ R' 3 = R 3
theorem sm3.trans {R R' R'' : Row} (h : sm3 R R') (k : sm3 R' R'') : sm3 R R'' := ⟨k.1.trans h.1, k.2.1.trans h.2.1, k.2.2.1.trans h.2.2.1, k.2.2.2.trans h.2.2.2⟩
theorem s_planNow_lo {R : Row} {j : Nat} (h : j < 4) : s_planNow R j = R j := by
  unfold s_planNow
  rw [s_planGoes_lo (by omega) (by omega)]
  split
  · exact upd_n (by omega)
  · exact s_launches_n (by omega) (by omega) (by omega) (by omega) (by omega) (by omega)
theorem s_plansNow_lo {j : Nat} (h : j < 4) : ∀ n {R : Row}, s_plansNow n R j = R j
  | 0, _ => rfl
  | n + 1, R => by
    unfold s_plansNow
    split
    · rw [s_plansNow_lo h n, s_planNow_lo h]
    · rfl
theorem s_ball_ok {q : Row × Int32} {b : Nat} (h : RI q.1) (hb : b < nB q.1) : RI (s_ball q b).1 ∧ BS b q.1 (s_ball q b).1 := by
  unfold s_ball
  by_cases e : q.1 (52 + 7 * b + 0) = 1
  · rw [if_pos e]
    obtain ⟨h1, h2, -⟩ := fliesOn_ok h.h18 e (h.ba b hb)
    exact ⟨h.ball hb (by rw [e]; decide) h1 h2.1 h2.2, h1⟩
  · rw [if_neg e]
    exact ⟨h, BS.rfl'⟩
theorem s_balls_ok {R : Row} (h : RI R) : ∀ n, n ≤ nB R → RI (s_balls n R).1 ∧ (∀ j, j < 12 → j ≠ 7 → (s_balls n R).1 j = R j)
  | 0, _ => ⟨h, fun _ _ _ => rfl⟩
  | n + 1, hn => by
    obtain ⟨h1, h2⟩ := s_balls_ok h n (by omega)
    have hb := nB_of (h2 2 (by decide) (by decide))
    obtain ⟨h3, h4⟩ := s_ball_ok (b := n) h1 (by omega)
    exact ⟨h3, fun j hj h7 => (h4.lo j hj h7).trans (h2 j hj h7)⟩
theorem s_balls_hi {R : Row} (h : RI R) : ∀ n, n ≤ nB R → ∀ j, 52 + 7 * n ≤ j → (s_balls n R).1 j = R j
  | 0, _ => fun _ _ => rfl
  | n + 1, hn => fun j hj => by
    obtain ⟨h1, h2⟩ := s_balls_ok h n (by omega)
    have hb := nB_of (h2 2 (by decide) (by decide))
    obtain ⟨-, h4⟩ := s_ball_ok (b := n) h1 (by omega)
    exact (h4.hi j (by omega) (by omega)).trans (s_balls_hi h n (by omega) j (by omega))
theorem dec0 {a : Nat} (h : a < 2 ^ 31) : (if nI a - 1 < 0 then 0 else nI a - 1) = nI (a - 1) := by
  cases a with
  | zero => decide
  | succ a => rw [nI_pred, if_neg (nI_pos (by omega))]; rfl
theorem s_crews_n {R : Row} {i j : Nat} (h : j < 192 ∨ 204 ≤ j) (hi : i ≤ 4) : s_crews R i j = R j := by
  simp only [s_crews]
  rw [if_neg (by omega)]
theorem s_crews_at {R : Row} {i c k : Nat} (hk : k < 3) : s_crews R i (192 + 3 * c + k) = if c < i ∧ k = 1 then (if R (192 + 3 * c + k) - 1 < 0 then 0 else R (192 + 3 * c + k) - 1) else R (192 + 3 * c + k) := by
  simp only [s_crews]
  by_cases e : c < i ∧ k = 1
  · rw [if_pos e, if_pos (by omega)]
  · rw [if_neg e, if_neg (by omega)]
theorem s_dry_n {R : Row} {i j : Nat} (h : j < 12 ∨ 52 ≤ j) (hi : i ≤ 8) : s_dry R i j = R j := by
  simp only [s_dry]
  rw [if_neg (by omega)]
theorem s_dry_at {R : Row} {i c k : Nat} (hk : k < 5) : s_dry R i (12 + 5 * c + k) = if c < i ∧ k = 1 then (if R (12 + 5 * c + k) - 1 < 0 then 0 else R (12 + 5 * c + k) - 1) else R (12 + 5 * c + k) := by
  simp only [s_dry]
  by_cases e : c < i ∧ k = 1
  · rw [if_pos e, if_pos (by omega)]
  · rw [if_neg e, if_neg (by omega)]
theorem RI.crews {R : Row} {i : Nat} (h : RI R) (hi : i ≤ 4) : RI (s_crews R i) := by
  have lo : ∀ j, j < 192 ∨ 204 ≤ j → s_crews R i j = R j := fun j hj => s_crews_n hj hi
  have e3 := nC_of (lo 3 (by decide))
  have a := h.cr_r (lo 1 (by decide)) (fun j h1 h2 => lo j (by omega))
  have b := h.cr_b (lo 2 (by decide)) (fun j h1 h2 => lo j (by omega))
  have d := h.cr_p (lo 4 (by decide)) (Nat.le_of_eq (nB_of (lo 2 (by decide))).symm) (Nat.le_of_eq e3.symm) (fun j h1 h2 => lo j (by omega))
  refine ⟨a.1, a.2.1, b.1, b.2.1, by rw [e3, lo 3 (by decide)]; exact h.h3, by rw [e3]; exact h.h38, d.1, d.2.1, a.2.2.1, a.2.2.2, b.2.2.1, fun c hc => ?_, d.2.2.1, d.2.2.2, by rw [b.2.2.2, lo 6 (by decide)]; exact h.la⟩
  rw [e3] at hc
  obtain ⟨h1, k, hk, hk4⟩ := h.cr c hc
  rw [s_crews_at (by decide), s_crews_at (by decide), if_neg (by omega)]
  refine ⟨h1, ?_⟩
  split
  · rw [hk, dec0 (by omega)]
    exact ⟨k - 1, rfl, by omega⟩
  · exact ⟨k, hk, hk4⟩
theorem RI.dry {R : Row} {i : Nat} (h : RI R) (hi : i ≤ 8) : RI (s_dry R i) := by
  have lo : ∀ j, j < 12 ∨ 52 ≤ j → s_dry R i j = R j := fun j hj => s_dry_n hj hi
  have e1 := nR_of (lo 1 (by decide))
  have b := h.cr_b (lo 2 (by decide)) (fun j h1 h2 => lo j (by omega))
  have c := h.cr_c (lo 3 (by decide)) (fun j h1 h2 => lo j (by omega))
  have d := h.cr_p (lo 4 (by decide)) (Nat.le_of_eq (nB_of (lo 2 (by decide))).symm) (Nat.le_of_eq (nC_of (lo 3 (by decide))).symm) (fun j h1 h2 => lo j (by omega))
  refine ⟨by rw [e1, lo 1 (by decide)]; exact h.h1, by rw [e1]; exact h.h18, b.1, b.2.1, c.1, c.2.1, d.1, d.2.1, fun r hr => ?_, fun r r' hr hr' he => ?_, b.2.2.1, c.2.2, d.2.2.1, d.2.2.2, by rw [b.2.2.2, lo 6 (by decide)]; exact h.la⟩
  · rw [e1] at hr
    obtain ⟨h1, ⟨k, hk, hk4⟩, h2⟩ := h.rf r hr
    rw [s_dry_at (by decide), s_dry_at (by decide), s_dry_at (by decide), s_dry_at (by decide), if_neg (by omega), if_neg (c := r < i ∧ 2 = 1) (by omega), if_neg (c := r < i ∧ 3 = 1) (by omega)]
    refine ⟨h1, ?_, h2⟩
    split
    · rw [hk, dec0 (by omega)]
      exact ⟨k - 1, rfl, by omega⟩
    · exact ⟨k, hk, hk4⟩
  · rw [e1] at hr hr'
    rw [s_dry_at (by decide), s_dry_at (by decide), if_neg (by omega), if_neg (by omega)] at he
    exact h.rd r r' hr hr' he
theorem RI.clock {R : Row} {v : Int32} (h : RI R) : RI (upd R 0 v) := h.low fun j _ h0 _ _ _ => upd_n h0
theorem RI.minute {R : Row} (h : RI R) : RI (s_minute R).1 := by
  unfold s_minute
  simp only
  have h1 := h.plansNow _ rfl
  have h2 := (s_balls_ok h1 _ (Nat.le_refl _)).1
  have h3 := h2.crews h2.h38
  refine RI.clock ?_
  split
  · exact h3.dry h3.h18
  · exact h3
theorem RI.goes {R : Row} (h : RI R) : ∀ n, RI (s_goes n R).1
  | 0 => h
  | n + 1 => (RI.goes h n).minute
