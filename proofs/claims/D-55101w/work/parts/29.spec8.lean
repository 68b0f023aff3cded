/-! ORDERS DONE; every public call keeps the row's invariant -/
set_option maxRecDepth 100000
def s_does (R : Row) (o : Od) : Int32 × Row × Option (Int32 × Int32) :=
  if o.1 = 119 then
    (if inB o.2.1 0 3 = false then (1, R, none) else if inB o.2.2 (-3) 3 = false then (1, R, none) else (0, upd R (8 + o.2.1.toNatClampNeg) o.2.2, none))
  else if o.1 = 108 then
    (if inB o.2.1 0 (R 2 - 1) = false then (1, R, none) else if inB o.2.2 0 (R 3 - 1) = false then (1, R, none)
    else match s_refL R o.2.1.toNatClampNeg o.2.2.toNatClampNeg with
      | some w => (2, R, some w)
      | none => (0, s_launches R o.2.1.toNatClampNeg o.2.2.toNatClampNeg, none))
  else if o.1 = 103 then
    (match s_roofAt R o.2.1 with
      | none => (1, R, none)
      | some r => if inB o.2.2 1 9 = false then (1, R, none) else if R (12 + 5 * r + 3) = 1 then (2, R, some (8, R (12 + 5 * r + 0))) else (0, s_wets R r o.2.2, none))
  else if o.1 = 111 then
    (match s_roofAt R o.2.1 with
      | none => (1, R, none)
      | some r => (0, upd R (12 + 5 * r + 2) 1, none))
  else if inB o.2.1 1 60 = false then (1, R, none) else (0, (s_goes o.2.1.toNatClampNeg R).1, none)
def s_run : List Od → Row → Int32 × Row × Option (Int32 × Int32)
  | [], R => (0, R, none)
  | o :: l, R => if (s_does R o).1 = 0 then s_run l (s_does R o).2.1 else s_does R o
def o_read (T : Nat → Int32) (n : Nat) (R : Row) : Oc × Int32 :=
  if (p_seq T n 21 0).1 = true then
    (if (s_run (p_seq T n 21 0).2.1 R).1 = 0 then (oOk (nI (p_seq T n 21 0).2.1.length) (s_run (p_seq T n 21 0).2.1 R).2.1, -1)
    else match (s_run (p_seq T n 21 0).2.1 R).2.2 with
      | none => (oNo 1 R, -1)
      | some w => (oRf 2 w.1 w.2 R, -1))
  else (oNo 1 R, nI (p_seq T n 21 0).2.2)
theorem RI.roof1 {R R' : Row} {r0 : Nat} (h : RI R) (hr0 : r0 < nR R) (hh : ∀ j, j < 222 → (j < 12 + 5 * r0 + 1 ∨ 12 + 5 * r0 + 5 ≤ j) → R' j = R j) (hok : okRoof (R' (12 + 5 * r0 + 0)) (R' (12 + 5 * r0 + 1)) (R' (12 + 5 * r0 + 2)) (R' (12 + 5 * r0 + 3))) : RI R' := by
  have h18 := h.h18
  have e1 := nR_of (hh 1 (by decide) (by omega))
  have b := h.cr_b (hh 2 (by decide) (by omega)) (fun j h1 h2 => hh j (by omega) (by omega))
  have c := h.cr_c (hh 3 (by decide) (by omega)) (fun j h1 h2 => hh j (by omega) (by omega))
  have d := h.cr_p (hh 4 (by decide) (by omega)) (Nat.le_of_eq (nB_of (hh 2 (by decide) (by omega))).symm) (Nat.le_of_eq (nC_of (hh 3 (by decide) (by omega))).symm) (fun j h1 h2 => hh j (by omega) (by omega))
  refine ⟨by rw [e1, hh 1 (by decide) (by omega)]; exact h.h1, by rw [e1]; exact h18, b.1, b.2.1, c.1, c.2.1, d.1, d.2.1, fun r hr => ?_, fun r r' hr hr' he => ?_, b.2.2.1, c.2.2, d.2.2.1, d.2.2.2, by rw [b.2.2.2, hh 6 (by decide) (by omega)]; exact h.la⟩
  · rw [e1] at hr
    by_cases e : r = r0
    · subst e; exact hok
    · rw [hh (12 + 5 * r + 0) (by omega) (by omega), hh (12 + 5 * r + 1) (by omega) (by omega), hh (12 + 5 * r + 2) (by omega) (by omega), hh (12 + 5 * r + 3) (by omega) (by omega)]
      exact h.rf r hr
  · rw [e1] at hr hr'
    rw [hh (12 + 5 * r + 0) (by omega) (by omega), hh (12 + 5 * r' + 0) (by omega) (by omega)] at he
    exact h.rd r r' hr hr' he
theorem RI.wind {R : Row} {i : Nat} {v : Int32} (h : RI R) (hi : i ≤ 3) : RI (upd R (8 + i) v) := h.low fun j _ _ _ _ h8 => upd_n (by omega)
theorem RI.watch {R : Row} {r : Nat} {v : Int32} (h : RI R) (hr : r < nR R) (hv : v = 0 ∨ v = 1) : RI (upd R (12 + 5 * r + 2) v) := by
  obtain ⟨a, b, c, d⟩ := h.rf r hr
  refine h.roof1 hr (fun j _ hj => upd_n (by omega)) ?_
  rw [upd_n (by omega), upd_n (by omega), upd_s, upd_n (by omega)]
  exact ⟨a, b, hv, d⟩
theorem RI.wets {R : Row} {r : Nat} {m : Int32} (h : RI R) (hr : r < nR R) (hm : inB m 1 9 = true) : RI (s_wets R r m) := by
  obtain ⟨a, ⟨w, hw, hw9⟩, c, d⟩ := h.rf r hr
  unfold s_wets
  refine h.roof1 hr (fun j _ hj => upd_n (by omega)) ?_
  rw [upd_n (by omega), upd_s, upd_n (by omega), upd_n (by omega)]
  refine ⟨a, ?_, c, d⟩
  obtain ⟨h1, h2⟩ := inB_t.mp hm
  obtain ⟨j, hj, rfl⟩ := nI_of (x := m) (Int32.not_lt.mpr (Int32.le_trans (by decide) h1))
  have hj9 : j ≤ 9 := (nI_leI hj (by decide)).mp (show nI j ≤ nI 9 from h2)
  rw [hw, nI_add]
  by_cases e : (9 : Int32) < nI (w + j)
  · rw [if_pos e]; exact ⟨9, rfl, Nat.le_refl _⟩
  · rw [if_neg e]
    exact ⟨w + j, rfl, (nI_leI (by omega) (by decide)).mp (show nI (w + j) ≤ nI 9 from Int32.not_lt.mp e)⟩
theorem RI.balIx {R : Row} {b : Int32} (h : RI R) (hb : inB b 0 (R 2 - 1) = true) : ∃ i, i < nB R ∧ b = nI i := (inB_cnt (show nB R < 2 ^ 30 by have := h.h28; omega)).mp (by rw [← h.h2]; exact hb)
theorem RI.crewIx {R : Row} {b : Int32} (h : RI R) (hb : inB b 0 (R 3 - 1) = true) : ∃ i, i < nC R ∧ b = nI i := (inB_cnt (show nC R < 2 ^ 30 by have := h.h38; omega)).mp (by rw [← h.h3]; exact hb)
theorem RI.does {R : Row} {o : Od} (h : RI R) : RI (s_does R o).2.1 := by
  have h28 := h.h28
  have h38 := h.h38
  have bt : ∀ x : Bool, ¬ x = false → x = true := fun x hx => by cases x; exact absurd rfl hx; rfl
  unfold s_does
  split
  · split
    · exact h
    · split
      · exact h
      · rename_i h1 h2
        obtain ⟨j, hj, e⟩ := inB_nI (n := 3) (by decide) (bt _ h1)
        simp only
        rw [e, nI_clamp (by omega)]
        exact h.wind hj
  · split
    · split
      · exact h
      · split
        · exact h
        · rename_i h1 h2
          obtain ⟨b, hb, e⟩ := h.balIx (bt _ h1)
          obtain ⟨c, hc, e2⟩ := h.crewIx (bt _ h2)
          rw [e, e2, nI_clamp (by omega), nI_clamp (by omega)]
          split
          · exact h
          · rename_i hn
            exact h.launches hb hc hn
    · split
      · split
        · exact h
        · rename_i r hr
          split
          · exact h
          · split
            · exact h
            · rename_i h1 h2
              exact h.wets (s_roofAt_lt hr) (bt _ h1)
      · split
        · split
          · exact h
          · rename_i r hr
            exact h.watch (s_roofAt_lt hr) (Or.inr rfl)
        · split
          · exact h
          · exact h.goes _
theorem RI.run : ∀ (l : List Od) {R : Row}, RI R → RI (s_run l R).2.1
  | [], _, h => h
  | o :: l, R, h => by
    unfold s_run
    split
    · exact RI.run l h.does
    · exact h.does
theorem RI.newRoof {R : Row} {p w : Nat} (h : RI R) (hp : p ≤ 60) (hw : w ≤ 9) (hn : s_roofAt R (nI p) = none) (h8 : nR R < 8) : RI (s_newRoof R (nI p) (nI w)) := by
  generalize hR' : s_newRoof R (nI p) (nI w) = R'
  have fr : ∀ j, j ≠ 1 → (j < 12 + 5 * nR R ∨ 12 + 5 * nR R + 5 ≤ j) → R' j = R j := by
    intro j h1 h2
    rw [← hR']
    unfold s_newRoof
    rw [upd_n h1, upd_n (by omega), upd_n (by omega), upd_n (by omega), upd_n (by omega), upd_n (by omega)]
  have e1 : R' 1 = nI (nR R + 1) := by rw [← hR']; unfold s_newRoof; rw [upd_s, h.h1, nI_1]
  have n1 : nR R' = nR R + 1 := by unfold nR; rw [e1, nI_clamp (show nR R + 1 < 2 ^ 31 by omega)]; rfl
  have v0 : R' (12 + 5 * nR R + 0) = nI p := by rw [← hR']; unfold s_newRoof; simp (disch := omega) only [upd_n, upd_s]
  have v1 : R' (12 + 5 * nR R + 1) = nI w := by rw [← hR']; unfold s_newRoof; simp (disch := omega) only [upd_n, upd_s]
  have v2 : R' (12 + 5 * nR R + 2) = 0 := by rw [← hR']; unfold s_newRoof; simp (disch := omega) only [upd_n, upd_s]
  have v3 : R' (12 + 5 * nR R + 3) = 0 := by rw [← hR']; unfold s_newRoof; simp (disch := omega) only [upd_n, upd_s]
  have b := h.cr_b (fr 2 (by decide) (by omega)) (fun j h1 h2 => fr j (by omega) (by omega))
  have c := h.cr_c (fr 3 (by decide) (by omega)) (fun j h1 h2 => fr j (by omega) (by omega))
  have d := h.cr_p (fr 4 (by decide) (by omega)) (Nat.le_of_eq (nB_of (fr 2 (by decide) (by omega))).symm) (Nat.le_of_eq (nC_of (fr 3 (by decide) (by omega))).symm) (fun j h1 h2 => fr j (by omega) (by omega))
  have hnot := s_find_not hn
  refine ⟨by rw [n1, e1], by omega, b.1, b.2.1, c.1, c.2.1, d.1, d.2.1, fun r hr => ?_, fun r r' hr hr' he => ?_, b.2.2.1, c.2.2, d.2.2.1, d.2.2.2, by rw [b.2.2.2, fr 6 (by decide) (by omega)]; exact h.la⟩
  · by_cases e : r = nR R
    · subst e
      rw [v0, v1, v2, v3]
      exact ⟨⟨p, rfl, hp⟩, ⟨w, rfl, hw⟩, Or.inl rfl, Or.inl rfl⟩
    · rw [fr (12 + 5 * r + 0) (by omega) (by omega), fr (12 + 5 * r + 1) (by omega) (by omega), fr (12 + 5 * r + 2) (by omega) (by omega), fr (12 + 5 * r + 3) (by omega) (by omega)]
      exact h.rf r (by omega)
  · have key : ∀ r, r < nR R → ¬ R (12 + 5 * r + 0) = nI p := fun r hr e => by have := hnot r hr; rw [Nat.add_zero] at e; simp [e] at this
    by_cases e : r = nR R
    · by_cases e' : r' = nR R
      · omega
      · rw [e, v0, fr (12 + 5 * r' + 0) (by omega) (by omega)] at he
        exact absurd he.symm (key r' (by omega))
    · by_cases e' : r' = nR R
      · rw [e', v0, fr (12 + 5 * r + 0) (by omega) (by omega)] at he
        exact absurd he (key r (by omega))
      · rw [fr (12 + 5 * r + 0) (by omega) (by omega), fr (12 + 5 * r' + 0) (by omega) (by omega)] at he
        exact h.rd r r' (by omega) (by omega) he
theorem RI.newBalloon {R : Row} {t w g : Int32} (h : RI R) (hw : inB w 1 30 = true) (h20 : nB R < 20) : RI (s_newBalloon R t w g) := by
  generalize hR' : s_newBalloon R t w g = R'
  have fr : ∀ j, j ≠ 2 → (j < 52 + 7 * nB R ∨ 52 + 7 * nB R + 7 ≤ j) → R' j = R j := by
    intro j h1 h2
    rw [← hR']
    unfold s_newBalloon
    rw [upd_n h1, upd_n (by omega), upd_n (by omega), upd_n (by omega), upd_n (by omega), upd_n (by omega), upd_n (by omega), upd_n (by omega)]
  have e2 : R' 2 = nI (nB R + 1) := by rw [← hR']; unfold s_newBalloon; rw [upd_s, h.h2, nI_1]
  have n2 : nB R' = nB R + 1 := by unfold nB; rw [e2, nI_clamp (show nB R + 1 < 2 ^ 31 by omega)]; rfl
  have v0 : R' (52 + 7 * nB R + 0) = 0 := by rw [← hR']; unfold s_newBalloon; simp (disch := omega) only [upd_n, upd_s]
  have v2 : R' (52 + 7 * nB R + 2) = w := by rw [← hR']; unfold s_newBalloon; simp (disch := omega) only [upd_n, upd_s]
  have v6 : R' (52 + 7 * nB R + 6) = 0 := by rw [← hR']; unfold s_newBalloon; simp (disch := omega) only [upd_n, upd_s]
  have a := h.cr_r (fr 1 (by decide) (by omega)) (fun j h1 h2 => fr j (by omega) (by omega))
  have c := h.cr_c (fr 3 (by decide) (by omega)) (fun j h1 h2 => fr j (by omega) (by omega))
  have d := h.cr_p (fr 4 (by decide) (by omega)) (by omega) (Nat.le_of_eq (nC_of (fr 3 (by decide) (by omega))).symm) (fun j h1 h2 => fr j (by omega) (by omega))
  obtain ⟨k1, k2⟩ := inB_t.mp hw
  obtain ⟨j, hj, rfl⟩ := nI_of (x := w) (Int32.not_lt.mpr (Int32.le_trans (by decide) k1))
  have hj9 : j ≤ 30 := (nI_leI hj (by decide)).mp (show nI j ≤ nI 30 from k2)
  refine ⟨a.1, a.2.1, by rw [n2, e2], by omega, c.1, c.2.1, d.1, d.2.1, a.2.2.1, a.2.2.2, fun b hb => ?_, c.2.2, d.2.2.1, d.2.2.2, ?_⟩
  · by_cases e : b = nB R
    · subst e
      rw [v0, v2, v6]
      exact ⟨0, j, 0, rfl, by decide, rfl, hj9, rfl, by decide, fun _ => rfl, fun e => absurd e (by decide)⟩
    · rw [fr (52 + 7 * b + 0) (by omega) (by omega), fr (52 + 7 * b + 2) (by omega) (by omega), fr (52 + 7 * b + 4) (by omega) (by omega), fr (52 + 7 * b + 5) (by omega) (by omega), fr (52 + 7 * b + 6) (by omega) (by omega)]
      exact h.ba b (by omega)
  · rw [n2, fr 6 (by decide) (by omega), h.la]
    congr 1
    show _ = s_lau R' (nB R) + _
    rw [if_pos v0, s_lau_c (R := R) (R' := R') (nB R) (fun b hb => by rw [fr (52 + 7 * b + 0) (by omega) (by omega)])]
    rfl
theorem RI.newCrew {R : Row} {p : Nat} (h : RI R) (hp : p ≤ 60) (h4 : nC R < 4) : RI (s_newCrew R (nI p)) := by
  generalize hR' : s_newCrew R (nI p) = R'
  have fr : ∀ j, j ≠ 3 → (j < 192 + 3 * nC R ∨ 192 + 3 * nC R + 3 ≤ j) → R' j = R j := by
    intro j h1 h2
    rw [← hR']
    unfold s_newCrew
    rw [upd_n h1, upd_n (by omega), upd_n (by omega), upd_n (by omega)]
  have e3 : R' 3 = nI (nC R + 1) := by rw [← hR']; unfold s_newCrew; rw [upd_s, h.h3, nI_1]
  have n3 : nC R' = nC R + 1 := by unfold nC; rw [e3, nI_clamp (show nC R + 1 < 2 ^ 31 by omega)]; rfl
  have v0 : R' (192 + 3 * nC R + 0) = nI p := by rw [← hR']; unfold s_newCrew; simp (disch := omega) only [upd_n, upd_s]
  have v1 : R' (192 + 3 * nC R + 1) = 0 := by rw [← hR']; unfold s_newCrew; simp (disch := omega) only [upd_n, upd_s]
  have a := h.cr_r (fr 1 (by decide) (by omega)) (fun j h1 h2 => fr j (by omega) (by omega))
  have b := h.cr_b (fr 2 (by decide) (by omega)) (fun j h1 h2 => fr j (by omega) (by omega))
  have d := h.cr_p (fr 4 (by decide) (by omega)) (Nat.le_of_eq (nB_of (fr 2 (by decide) (by omega))).symm) (by omega) (fun j h1 h2 => fr j (by omega) (by omega))
  refine ⟨a.1, a.2.1, b.1, b.2.1, by rw [n3, e3], by omega, d.1, d.2.1, a.2.2.1, a.2.2.2, b.2.2.1, fun c hc => ?_, d.2.2.1, d.2.2.2, by rw [b.2.2.2, fr 6 (by decide) (by omega)]; exact h.la⟩
  by_cases e : c = nC R
  · subst e
    rw [v0, v1]
    exact ⟨⟨p, rfl, hp⟩, 0, rfl, by decide⟩
  · rw [fr (192 + 3 * c + 0) (by omega) (by omega), fr (192 + 3 * c + 1) (by omega) (by omega)]
    exact h.cr c (by omega)
theorem planLt_i {m b m' b' : Int32} : planLt m b m' b' ↔ m.toInt < m'.toInt ∨ (m.toInt = m'.toInt ∧ b.toInt < b'.toInt) := by
  unfold planLt
  rw [Int32.lt_iff_toInt_lt, Int32.lt_iff_toInt_lt, Int32.toInt_inj]
theorem s_pos_hi {R : Row} {b m : Int32} : ∀ n q, s_pos R b m n ≤ q → q < n → planLt m b (R (204 + 3 * q + 2)) (R (204 + 3 * q + 0))
  | 0, _, _, h => absurd h (Nat.not_lt_zero _)
  | n + 1, q, h1, h2 => by
    unfold s_pos at h1
    by_cases e : m < R (204 + 3 * n + 2) ∨ (R (204 + 3 * n + 2) = m ∧ b < R (204 + 3 * n + 0))
    · rw [if_pos e] at h1
      by_cases e2 : q = n
      · subst e2
        rcases e with e | ⟨e, e'⟩
        · exact Or.inl e
        · exact Or.inr ⟨e.symm, e'⟩
      · exact s_pos_hi n q h1 (by omega)
    · rw [if_neg e] at h1
      omega
theorem s_pos_lo {R : Row} {b m : Int32} : ∀ n a, s_pos R b m n = a + 1 → a < n ∧ ¬ (m < R (204 + 3 * a + 2) ∨ (R (204 + 3 * a + 2) = m ∧ b < R (204 + 3 * a + 0)))
  | 0, _, h => by unfold s_pos at h; omega
  | n + 1, a, h => by
    unfold s_pos at h
    by_cases e : m < R (204 + 3 * n + 2) ∨ (R (204 + 3 * n + 2) = m ∧ b < R (204 + 3 * n + 0))
    · rw [if_pos e] at h
      obtain ⟨h1, h2⟩ := s_pos_lo n a h
      exact ⟨by omega, h2⟩
    · rw [if_neg e] at h
      have : a = n := by omega
      subst this
      exact ⟨Nat.lt_succ_self _, e⟩
theorem s_planIn_lo {R : Row} {b c m : Int32} {j : Nat} (hj : j < 204) (h4 : j ≠ 4) : s_planIn R b c m j = R j := by
  unfold s_planIn
  rw [upd_n h4, upd_n (by omega), upd_n (by omega), upd_n (by omega)]
  simp only [s_up]
  rw [if_neg (by omega)]
theorem s_planIn_at {R : Row} {b c m : Int32} {q k : Nat} (hk : k < 3) (hq : q ≤ nP R) (hp : s_pos R b m (nP R) ≤ nP R) : s_planIn R b c m (204 + 3 * q + k) = if q < s_pos R b m (nP R) then R (204 + 3 * q + k) else if q = s_pos R b m (nP R) then (if k = 0 then b else if k = 1 then c else m) else R (204 + 3 * (q - 1) + k) := by
  unfold s_planIn
  generalize s_pos R b m (nP R) = a at *
  rw [upd_n (by omega)]
  by_cases e : q < a
  · rw [if_pos e, upd_n (by omega), upd_n (by omega), upd_n (by omega)]
    simp only [s_up]
    rw [if_neg (by omega)]
  · rw [if_neg e]
    by_cases e2 : q = a
    · subst e2
      rw [if_pos rfl]
      match k, hk with
      | 0, _ => rw [upd_n (by omega), upd_n (by omega), upd_s]; rfl
      | 1, _ => rw [upd_n (by omega), upd_s]; rfl
      | 2, _ => rw [upd_s]; rfl
      | k + 3, hk => omega
    · rw [if_neg e2, upd_n (by omega), upd_n (by omega), upd_n (by omega)]
      simp only [s_up]
      rw [if_pos (by omega)]
      congr 1
      omega
theorem refP_none {R : Row} {b : Nat} {m : Int32} (h : s_refP R b m = none) : ¬ R 4 = 6 ∧ s_planOf R b = none := by
  unfold s_refP at h
  by_cases e : R 4 = 6
  · rw [if_pos e] at h; cases h
  · rw [if_neg e] at h
    by_cases e2 : R (52 + 7 * b + 0) ≠ 0
    · rw [if_pos e2] at h; cases h
    · rw [if_neg e2] at h
      cases hp : s_planOf R b with
      | some p => rw [hp] at h; cases h
      | none => exact ⟨e, rfl⟩
theorem RI.planIn {R : Row} {b c : Nat} {m : Int32} (h : RI R) (hb : b < nB R) (hc : c < nC R) (hm : inB m 0 9999 = true) (hr : s_refP R b m = none) : RI (s_planIn R (nI b) (nI c) m) := by
  obtain ⟨h6, hno⟩ := refP_none hr
  have h48 := h.h48
  have h28 := h.h28
  have h38 := h.h38
  have hP : nP R < 6 := by
    rcases Nat.lt_or_ge (nP R) 6 with e | e
    · exact e
    · exact absurd (h.h4.trans (show nI (nP R) = 6 by rw [show nP R = 6 by omega]; decide)) h6
  have ha := s_pos_le (R := R) (b := nI b) (m := m) (nP R)
  have at' : ∀ q k, k < 3 → q ≤ nP R → _ := fun q k hk hq => s_planIn_at (R := R) (b := nI b) (c := nI c) (m := m) hk hq ha
  have hhi := s_pos_hi (R := R) (b := nI b) (m := m) (nP R)
  have hlo := s_pos_lo (R := R) (b := nI b) (m := m) (nP R)
  have lo : ∀ j, j < 204 → j ≠ 4 → s_planIn R (nI b) (nI c) m j = R j := fun j h1 h2 => s_planIn_lo h1 h2
  have e4 : s_planIn R (nI b) (nI c) m 4 = nI (nP R + 1) := by unfold s_planIn; rw [upd_s, h.h4, nI_1]
  generalize s_planIn R (nI b) (nI c) m = R' at *
  generalize s_pos R (nI b) m (nP R) = a at *
  have n4 : nP R' = nP R + 1 := by unfold nP; rw [e4, nI_clamp (show nP R + 1 < 2 ^ 31 by omega)]; rfl
  have r := h.cr_r (lo 1 (by decide) (by decide)) (fun j h1 h2 => lo j (by omega) (by omega))
  have bb := h.cr_b (lo 2 (by decide) (by decide)) (fun j h1 h2 => lo j (by omega) (by omega))
  have cc := h.cr_c (lo 3 (by decide) (by decide)) (fun j h1 h2 => lo j (by omega) (by omega))
  have e2 := nB_of (lo 2 (by decide) (by decide))
  have e3 := nC_of (lo 3 (by decide) (by decide))
  obtain ⟨t, ht, rfl⟩ := inB_nI (n := 9999) (by decide) hm
  have hbelow : ∀ p, p < a → planLt (R (204 + 3 * p + 2)) (R (204 + 3 * p + 0)) (nI t) (nI b) := by
    intro p hp
    obtain ⟨a0, rfl⟩ : ∃ a0, a = a0 + 1 := ⟨a - 1, by omega⟩
    obtain ⟨k1, k2⟩ := hlo a0 rfl
    have hne : R (204 + 3 * a0 + 0) ≠ nI b := by
      intro e
      have := s_find_not hno a0 k1
      rw [Nat.add_zero] at e
      simp [e] at this
    have hz : planLt (R (204 + 3 * a0 + 2)) (R (204 + 3 * a0 + 0)) (nI t) (nI b) := by
      rw [planLt_i]
      rw [Int32.lt_iff_toInt_lt, Int32.lt_iff_toInt_lt, ← Int32.toInt_inj] at k2
      rw [ne_eq, ← Int32.toInt_inj] at hne
      omega
    by_cases e : p = a0
    · subst e; exact hz
    · have hy := h.ps p a0 (by omega) k1
      rw [planLt_i] at *
      omega
  refine ⟨r.1, r.2.1, bb.1, bb.2.1, cc.1, cc.2.1, by rw [n4, e4], by omega, r.2.2.1, r.2.2.2, bb.2.2.1, cc.2.2, fun q hq => ?_, fun p q hpq hq => ?_, by rw [bb.2.2.2, lo 6 (by decide) (by decide)]; exact h.la⟩
  · rw [e2, e3, at' q 0 (by decide) (by omega), at' q 1 (by decide) (by omega), at' q 2 (by decide) (by omega)]
    by_cases e : q < a
    · simp only [if_pos e]
      exact h.pl q (by omega)
    · by_cases e' : q = a
      · simp only [if_neg e, if_pos e']
        exact ⟨⟨b, rfl, hb⟩, ⟨c, rfl, hc⟩, t, rfl, ht⟩
      · simp only [if_neg e, if_neg e']
        exact h.pl (q - 1) (by omega)
  · rw [at' p 0 (by decide) (by omega), at' p 2 (by decide) (by omega), at' q 0 (by decide) (by omega), at' q 2 (by decide) (by omega)]
    by_cases p1 : p < a
    · simp only [if_pos p1]
      by_cases q1 : q < a
      · simp only [if_pos q1]; exact h.ps p q hpq (by omega)
      · by_cases q2 : q = a
        · simp only [if_neg q1, if_pos q2]; exact hbelow p p1
        · simp only [if_neg q1, if_neg q2]; exact h.ps p (q - 1) (by omega) (by omega)
    · have q1 : ¬ q < a := by omega
      have q2 : ¬ q = a := by omega
      simp only [if_neg p1, if_neg q1, if_neg q2]
      by_cases p2 : p = a
      · simp only [if_pos p2]; exact hhi (q - 1) (by omega) (by omega)
      · simp only [if_neg p2]; exact h.ps (p - 1) (q - 1) (by omega) (by omega)
