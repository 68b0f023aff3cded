/-! THE ROW's INVARIANT, and that the minutes keep it -/
set_option maxRecDepth 100000
theorem nR_of {R R' : Row} (h : R' 1 = R 1) : nR R' = nR R := by unfold nR; rw [h]
theorem nB_of {R R' : Row} (h : R' 2 = R 2) : nB R' = nB R := by unfold nB; rw [h]
theorem nC_of {R R' : Row} (h : R' 3 = R 3) : nC R' = nC R := by unfold nC; rw [h]
theorem nP_of {R R' : Row} (h : R' 4 = R 4) : nP R' = nP R := by unfold nP; rw [h]
def okRoof (p w wa bu : Int32) : Prop := (∃ p', p = nI p' ∧ p' ≤ 60) ∧ (∃ w', w = nI w' ∧ w' ≤ 9) ∧ (wa = 0 ∨ wa = 1) ∧ (bu = 0 ∨ bu = 1)
def okBall (s w l p f : Int32) : Prop := ∃ s' w' f' : Nat, s = nI s' ∧ s' ≤ 4 ∧ w = nI w' ∧ w' ≤ 30 ∧ f = nI f' ∧ f' ≤ 34 ∧ (s' = 0 → f' = 0) ∧ (s' = 1 → ∃ l' p', l = nI l' ∧ l' ≤ 3 ∧ p = nI p' ∧ p' ≤ 60 ∧ f' + w' + l' ≤ 33 ∧ (0 < w' → f' + w' ≤ 30))
def okCrew (p b : Int32) : Prop := (∃ p', p = nI p' ∧ p' ≤ 60) ∧ (∃ b', b = nI b' ∧ b' ≤ 4)
def okPlan (n m : Nat) (b c t : Int32) : Prop := (∃ b', b = nI b' ∧ b' < n) ∧ (∃ c', c = nI c' ∧ c' < m) ∧ (∃ t', t = nI t' ∧ t' ≤ 9999)
/-- how many of the first n balloons are not ready -/
def s_lau (R : Row) : Nat → Nat
  | 0 => 0
  | n + 1 => s_lau R n + (if R (52 + 7 * n + 0) = 0 then 0 else 1)
def planLt (m b m' b' : Int32) : Prop := m < m' ∨ (m = m' ∧ b < b')
abbrev RI (R : Row) : Prop := (R 1 = nI (nR R)) ∧ (nR R ≤ 8) ∧ (R 2 = nI (nB R)) ∧ (nB R ≤ 20) ∧ (R 3 = nI (nC R)) ∧ (nC R ≤ 4) ∧ (R 4 = nI (nP R)) ∧ (nP R ≤ 6) ∧ (∀ r, r < nR R → okRoof (R (12 + 5 * r + 0)) (R (12 + 5 * r + 1)) (R (12 + 5 * r + 2)) (R (12 + 5 * r + 3))) ∧ (∀ r r', r < nR R → r' < nR R → R (12 + 5 * r + 0) = R (12 + 5 * r' + 0) → r = r') ∧ (∀ b, b < nB R → okBall (R (52 + 7 * b + 0)) (R (52 + 7 * b + 2)) (R (52 + 7 * b + 4)) (R (52 + 7 * b + 5)) (R (52 + 7 * b + 6))) ∧ (∀ c, c < nC R → okCrew (R (192 + 3 * c + 0)) (R (192 + 3 * c + 1))) ∧ (∀ p, p < nP R → okPlan (nB R) (nC R) (R (204 + 3 * p + 0)) (R (204 + 3 * p + 1)) (R (204 + 3 * p + 2))) ∧ (∀ p q, p < q → q < nP R → planLt (R (204 + 3 * p + 2)) (R (204 + 3 * p + 0)) (R (204 + 3 * q + 2)) (R (204 + 3 * q + 0))) ∧ (R 6 = nI (s_lau R (nB R)))
theorem RI.h1 {R : Row} (h : RI R) : R 1 = nI (nR R) := h.1
theorem RI.h18 {R : Row} (h : RI R) : nR R ≤ 8 := h.2.1
theorem RI.h2 {R : Row} (h : RI R) : R 2 = nI (nB R) := h.2.2.1
theorem RI.h28 {R : Row} (h : RI R) : nB R ≤ 20 := h.2.2.2.1
theorem RI.h3 {R : Row} (h : RI R) : R 3 = nI (nC R) := h.2.2.2.2.1
theorem RI.h38 {R : Row} (h : RI R) : nC R ≤ 4 := h.2.2.2.2.2.1
theorem RI.h4 {R : Row} (h : RI R) : R 4 = nI (nP R) := h.2.2.2.2.2.2.1
theorem RI.h48 {R : Row} (h : RI R) : nP R ≤ 6 := h.2.2.2.2.2.2.2.1
theorem RI.rf {R : Row} (h : RI R) : ∀ r, r < nR R → okRoof (R (12 + 5 * r + 0)) (R (12 + 5 * r + 1)) (R (12 + 5 * r + 2)) (R (12 + 5 * r + 3)) := h.2.2.2.2.2.2.2.2.1
theorem RI.rd {R : Row} (h : RI R) : ∀ r r', r < nR R → r' < nR R → R (12 + 5 * r + 0) = R (12 + 5 * r' + 0) → r = r' := h.2.2.2.2.2.2.2.2.2.1
theorem RI.ba {R : Row} (h : RI R) : ∀ b, b < nB R → okBall (R (52 + 7 * b + 0)) (R (52 + 7 * b + 2)) (R (52 + 7 * b + 4)) (R (52 + 7 * b + 5)) (R (52 + 7 * b + 6)) := h.2.2.2.2.2.2.2.2.2.2.1
theorem RI.cr {R : Row} (h : RI R) : ∀ c, c < nC R → okCrew (R (192 + 3 * c + 0)) (R (192 + 3 * c + 1)) := h.2.2.2.2.2.2.2.2.2.2.2.1
theorem RI.pl {R : Row} (h : RI R) : ∀ p, p < nP R → okPlan (nB R) (nC R) (R (204 + 3 * p + 0)) (R (204 + 3 * p + 1)) (R (204 + 3 * p + 2)) := h.2.2.2.2.2.2.2.2.2.2.2.2.1
theorem RI.ps {R : Row} (h : RI R) : ∀ p q, p < q → q < nP R → planLt (R (204 + 3 * p + 2)) (R (204 + 3 * p + 0)) (R (204 + 3 * q + 2)) (R (204 + 3 * q + 0)) := h.2.2.2.2.2.2.2.2.2.2.2.2.2.1
theorem RI.la {R : Row} (h : RI R) : R 6 = nI (s_lau R (nB R)) := h.2.2.2.2.2.2.2.2.2.2.2.2.2.2
theorem s_lau_le {R : Row} : ∀ n, s_lau R n ≤ n
  | 0 => Nat.le_refl _
  | n + 1 => by
    have := s_lau_le (R := R) n
    unfold s_lau
    split <;> omega
theorem s_lau_c {R R' : Row} : ∀ n, (∀ b, b < n → (R' (52 + 7 * b + 0) = 0 ↔ R (52 + 7 * b + 0) = 0)) → s_lau R' n = s_lau R n
  | 0, _ => rfl
  | n + 1, h => by
    unfold s_lau
    rw [s_lau_c n fun b hb => h b (by omega)]
    by_cases e : R (52 + 7 * n + 0) = 0
    · rw [if_pos e, if_pos ((h n (by omega)).mpr e)]
    · rw [if_neg e, if_neg (fun e' => e ((h n (by omega)).mp e'))]
/-- what a step of balloon b leaves -/
abbrev BS (b : Nat) (R R' : Row) : Prop := (∀ j, j < 12 → j ≠ 7 → R' j = R j) ∧ (∀ r, r < 8 → R' (12 + 5 * r + 0) = R (12 + 5 * r + 0) ∧ R' (12 + 5 * r + 1) = R (12 + 5 * r + 1) ∧ R' (12 + 5 * r + 2) = R (12 + 5 * r + 2) ∧ (R' (12 + 5 * r + 3) = R (12 + 5 * r + 3) ∨ R' (12 + 5 * r + 3) = 1)) ∧ (∀ j, 52 ≤ j → (j < 52 + 7 * b ∨ 52 + 7 * b + 7 ≤ j) → R' j = R j)
theorem BS.lo {b : Nat} {R R' : Row} (h : BS b R R') : ∀ j, j < 12 → j ≠ 7 → R' j = R j := h.1
theorem BS.rf {b : Nat} {R R' : Row} (h : BS b R R') : ∀ r, r < 8 → R' (12 + 5 * r + 0) = R (12 + 5 * r + 0) ∧ R' (12 + 5 * r + 1) = R (12 + 5 * r + 1) ∧ R' (12 + 5 * r + 2) = R (12 + 5 * r + 2) ∧ (R' (12 + 5 * r + 3) = R (12 + 5 * r + 3) ∨ R' (12 + 5 * r + 3) = 1) := h.2.1
theorem BS.hi {b : Nat} {R R' : Row} (h : BS b R R') : ∀ j, 52 ≤ j → (j < 52 + 7 * b ∨ 52 + 7 * b + 7 ≤ j) → R' j = R j := h.2.2
theorem BS.rfl' {b : Nat} {R : Row} : BS b R R := ⟨fun _ _ _ => rfl, fun _ _ => ⟨rfl, rfl, rfl, Or.inl rfl⟩, fun _ _ _ => rfl⟩
theorem BS.trans {b : Nat} {R R' R'' : Row} (h : BS b R R') (k : BS b R' R'') : BS b R R'' :=
  ⟨fun j h1 h2 => (k.lo j h1 h2).trans (h.lo j h1 h2), fun r hr => ⟨(k.rf r hr).1.trans (h.rf r hr).1, (k.rf r hr).2.1.trans (h.rf r hr).2.1, (k.rf r hr).2.2.1.trans (h.rf r hr).2.2.1, by
    rcases (k.rf r hr).2.2.2 with e | e
    · rw [e]; exact (h.rf r hr).2.2.2
    · exact Or.inr e⟩, fun j h1 h2 => (k.hi j h1 h2).trans (h.hi j h1 h2)⟩
theorem BS.ball {b j : Nat} {R : Row} {v : Int32} (hj : j < 7) : BS b R (upd R (52 + 7 * b + j) v) :=
  ⟨fun k h1 _ => upd_n (by omega), fun r hr => ⟨upd_n (by omega), upd_n (by omega), upd_n (by omega), Or.inl (upd_n (by omega))⟩, fun k h1 h2 => upd_n (by omega)⟩
theorem BS.sev {b : Nat} {R : Row} {v : Int32} : BS b R (upd R 7 v) :=
  ⟨fun k h1 h2 => upd_n h2, fun r hr => ⟨upd_n (by omega), upd_n (by omega), upd_n (by omega), Or.inl (upd_n (by omega))⟩, fun k h1 h2 => upd_n (by omega)⟩
theorem BS.landed {b r : Nat} {R : Row} {v : Int32} (hr : r < 8) : BS b R (upd R (12 + 5 * r + 4) v) :=
  ⟨fun k h1 h2 => upd_n (by omega), fun r hr => ⟨upd_n (by omega), upd_n (by omega), upd_n (by omega), Or.inl (upd_n (by omega))⟩, fun k h1 h2 => upd_n (by omega)⟩
theorem BS.burn {b r : Nat} {R : Row} (hr : r < 8) : BS b R (upd R (12 + 5 * r + 3) 1) :=
  ⟨fun k h1 h2 => upd_n (by omega), fun r' hr => ⟨upd_n (by omega), upd_n (by omega), upd_n (by omega), by
    by_cases e : 12 + 5 * r' + 3 = 12 + 5 * r + 3
    · rw [e]; exact Or.inr upd_s
    · exact Or.inl (upd_n e)⟩, fun k h1 h2 => upd_n (by omega)⟩
theorem s_ends_BS {b : Nat} {R : Row} {st : Int32} : BS b R (s_ends R b st) := by
  unfold s_ends
  simp only
  split
  · exact ((BS.ball (by decide)).trans (BS.ball (by decide))).trans (BS.ball (by decide))
  · exact (BS.ball (by decide)).trans (BS.ball (by decide))
theorem s_ends_0 {b : Nat} {R : Row} {st : Int32} : s_ends R b st (52 + 7 * b + 0) = st := by
  unfold s_ends
  split <;> simp (disch := omega) only [upd_n, upd_s]
theorem s_ends_n {b j : Nat} {R : Row} {st : Int32} (h0 : j ≠ 52 + 7 * b + 0) (h4 : j ≠ 52 + 7 * b + 4) (h5 : j ≠ 52 + 7 * b + 5) : s_ends R b st j = R j := by
  unfold s_ends
  split <;> simp (disch := omega) only [upd_n]
/-- the balloon has ended -/
def bEnd (b : Nat) (R R' : Row) : Prop := (∃ s, 2 ≤ s ∧ s ≤ 4 ∧ R' (52 + 7 * b + 0) = nI s) ∧ R' (52 + 7 * b + 2) = R (52 + 7 * b + 2) ∧ R' (52 + 7 * b + 6) = R (52 + 7 * b + 6)
theorem s_ends_E {b s : Nat} {R : Row} (h2 : 2 ≤ s) (h4 : s ≤ 4) : bEnd b R (s_ends R b (nI s)) := ⟨⟨s, h2, h4, s_ends_0⟩, s_ends_n (by omega) (by omega) (by omega), s_ends_n (by omega) (by omega) (by omega)⟩
theorem bEnd.of {b : Nat} {R R1 R' : Row} (h : bEnd b R1 R') (e2 : R1 (52 + 7 * b + 2) = R (52 + 7 * b + 2)) (e6 : R1 (52 + 7 * b + 6) = R (52 + 7 * b + 6)) : bEnd b R R' := ⟨h.1, h.2.1.trans e2, h.2.2.trans e6⟩
theorem s_lands_BS {b : Nat} {R : Row} (h18 : nR R ≤ 8) : BS b R (s_lands R b) ∧ bEnd b R (s_lands R b) := by
  unfold s_lands
  cases hr : s_roofAt R (R (52 + 7 * b + 5)) with
  | none => exact ⟨s_ends_BS, s_ends_E (s := 2) (by decide) (by decide)⟩
  | some r =>
    have hr8 := s_roofAt_lt hr
    simp only
    split
    · exact ⟨((BS.landed (by omega)).trans (BS.burn (by omega))).trans s_ends_BS, (s_ends_E (s := 3) (by decide) (by decide)).of (by simp (disch := omega) only [upd_n]) (by simp (disch := omega) only [upd_n])⟩
    · exact ⟨(BS.landed (by omega)).trans s_ends_BS, (s_ends_E (s := 2) (by decide) (by decide)).of (by simp (disch := omega) only [upd_n]) (by simp (disch := omega) only [upd_n])⟩
/-- the balloon flies on, over a place of the town -/
def bOn (b : Nat) (R R' : Row) : Prop := R' (52 + 7 * b + 0) = R (52 + 7 * b + 0) ∧ R' (52 + 7 * b + 2) = R (52 + 7 * b + 2) ∧ R' (52 + 7 * b + 4) = R (52 + 7 * b + 4) ∧ inB (R' (52 + 7 * b + 5)) 0 60 = true ∧ R' (52 + 7 * b + 6) = R (52 + 7 * b + 6)
theorem s_drifts_BS {b : Nat} {R : Row} (h18 : nR R ≤ 8) : BS b R (s_drifts R b) ∧ (bEnd b R (s_drifts R b) ∨ bOn b R (s_drifts R b)) := by
  unfold s_drifts
  simp only
  generalize hd : R (8 + (R (52 + 7 * b + 4)).toNatClampNeg) = d
  by_cases hp : inB (R (52 + 7 * b + 5) + d) 0 60 = false
  · rw [if_pos hp]
    exact ⟨(BS.ball (by decide)).trans s_ends_BS, Or.inl ((s_ends_E (s := 4) (by decide) (by decide)).of (by simp (disch := omega) only [upd_n]) (by simp (disch := omega) only [upd_n]))⟩
  · rw [if_neg hp]
    have hp' : inB (R (52 + 7 * b + 5) + d) 0 60 = true := by simpa using hp
    split
    · exact ⟨BS.ball (by decide), Or.inr ⟨upd_n (by omega), upd_n (by omega), upd_n (by omega), by rw [upd_s]; exact hp', upd_n (by omega)⟩⟩
    · split
      · exact ⟨(BS.ball (by decide)).trans (BS.ball (by decide)), Or.inr ⟨by simp (disch := omega) only [upd_n], by simp (disch := omega) only [upd_n], by simp (disch := omega) only [upd_n], by rw [upd_n (by omega), upd_s]; exact hp', by simp (disch := omega) only [upd_n]⟩⟩
      · split
        · exact ⟨((BS.ball (by decide)).trans (BS.ball (by decide))).trans s_ends_BS, Or.inl ((s_ends_E (s := 3) (by decide) (by decide)).of (by simp (disch := omega) only [upd_n]) (by simp (disch := omega) only [upd_n]))⟩
        · have hl := s_lands_BS (b := b) (R := upd (upd R (52 + 7 * b + 5) (R (52 + 7 * b + 5) + d)) (52 + 7 * b + 1) (R (52 + 7 * b + 1) - 1)) (by rw [nR_of (R := R) (by simp (disch := omega) only [upd_n])]; exact h18)
          exact ⟨((BS.ball (by decide)).trans (BS.ball (by decide))).trans hl.1, Or.inl (hl.2.of (by simp (disch := omega) only [upd_n]) (by simp (disch := omega) only [upd_n]))⟩
theorem lay_up {q : Nat} (h : q ≤ 3) : (if (3 : Int32) < nI q + 1 then 3 else nI q + 1) = nI (if 3 ≤ q then 3 else q + 1) := by
  match q, h with
  | 0, _ => decide
  | 1, _ => decide
  | 2, _ => decide
  | 3, _ => decide
  | q + 4, h => omega
theorem okBall_end {R R' : Row} {b w f : Nat} (h : bEnd b R R') (hw : R (52 + 7 * b + 2) = nI w) (hw3 : w ≤ 30) (hf : R (52 + 7 * b + 6) = nI f) (hf3 : f ≤ 34) : okBall (R' (52 + 7 * b + 0)) (R' (52 + 7 * b + 2)) (R' (52 + 7 * b + 4)) (R' (52 + 7 * b + 5)) (R' (52 + 7 * b + 6)) ∧ R' (52 + 7 * b + 0) ≠ 0 := by
  obtain ⟨⟨s, h1, h2, h3⟩, h4, h5⟩ := h
  refine ⟨⟨s, w, f, h3, h2, h4.trans hw, hw3, h5.trans hf, hf3, fun e => by omega, fun e => by omega⟩, ?_⟩
  rw [h3]
  exact nI_ne0 (by omega) (by omega)
theorem okBall_on {R R' : Row} {b w f q : Nat} (h : bOn b R R') (hs : R (52 + 7 * b + 0) = 1) (hw : R (52 + 7 * b + 2) = nI w) (hw3 : w ≤ 30) (hf : R (52 + 7 * b + 6) = nI f) (hl : R (52 + 7 * b + 4) = nI q) (hq : q ≤ 3) (h33 : f + w + q ≤ 33) (h30 : 0 < w → f + w ≤ 30) : okBall (R' (52 + 7 * b + 0)) (R' (52 + 7 * b + 2)) (R' (52 + 7 * b + 4)) (R' (52 + 7 * b + 5)) (R' (52 + 7 * b + 6)) ∧ R' (52 + 7 * b + 0) ≠ 0 := by
  obtain ⟨h1, h2, h3, h4, h5⟩ := h
  obtain ⟨p, hp, hp'⟩ := inB_nI (n := 60) (by decide) h4
  refine ⟨⟨1, w, f, h1.trans hs, by decide, h2.trans hw, hw3, h5.trans hf, by omega, fun e => by omega, fun _ => ⟨q, p, h3.trans hl, hq, hp', hp, h33, h30⟩⟩, ?_⟩
  rw [h1, hs]
  decide

theorem fliesOn_ok {b : Nat} {R : Row} (h18 : nR R ≤ 8) (hs : R (52 + 7 * b + 0) = 1) (hok : okBall (R (52 + 7 * b + 0)) (R (52 + 7 * b + 2)) (R (52 + 7 * b + 4)) (R (52 + 7 * b + 5)) (R (52 + 7 * b + 6))) : BS b R (s_fliesOn R b) ∧ (let R' := s_fliesOn R b; okBall (R' (52 + 7 * b + 0)) (R' (52 + 7 * b + 2)) (R' (52 + 7 * b + 4)) (R' (52 + 7 * b + 5)) (R' (52 + 7 * b + 6)) ∧ R' (52 + 7 * b + 0) ≠ 0) ∧ s_fliesOn R b (52 + 7 * b + 6) = R (52 + 7 * b + 6) + 1 := by
  obtain ⟨s, w, f, e0, hs4, e2, hw, e6, hf, -, hfl⟩ := hok
  have hs1 : s = 1 := by
    rw [hs] at e0
    exact ((nI_eq (by omega) (by decide)).mp (e0.symm.trans (show (1 : Int32) = nI 1 by decide)))
  obtain ⟨q, p, e4, hq, e5, hp, h33, h30⟩ := hfl hs1
  have hE : ∀ {R1 R' : Row}, R1 (52 + 7 * b + 6) = R (52 + 7 * b + 6) + 1 → (bEnd b R1 R' ∨ bOn b R1 R') → R' (52 + 7 * b + 6) = R (52 + 7 * b + 6) + 1 := by
    intro R1 R' h1 h2
    rcases h2 with h2 | h2
    · rw [h2.2.2, h1]
    · rw [h2.2.2.2.2, h1]
  unfold s_fliesOn
  simp only
  by_cases hw0 : 0 < R (52 + 7 * b + 2)
  · rw [if_pos hw0]
    have hw1 : 0 < w := by
      rcases Nat.eq_zero_or_pos w with e | e
      · subst e; rw [e2] at hw0; exact absurd hw0 (by decide)
      · exact e
    obtain ⟨w1, rfl⟩ : ∃ w1, w = w1 + 1 := ⟨w - 1, by omega⟩
    have h30' := h30 hw1
    generalize hR1 : upd (upd (upd (upd R (52 + 7 * b + 6) (R (52 + 7 * b + 6) + 1)) 7 (R 7 + 1)) (52 + 7 * b + 2) (R (52 + 7 * b + 2) - 1)) (52 + 7 * b + 4) (if 3 < R (52 + 7 * b + 4) + 1 then 3 else R (52 + 7 * b + 4) + 1) = R1
    have f0 : R1 (52 + 7 * b + 0) = 1 := by rw [← hR1]; simp (disch := omega) only [upd_n]; exact hs
    have f2 : R1 (52 + 7 * b + 2) = nI w1 := by rw [← hR1]; rw [upd_n (by omega), upd_s, e2, nI_pred]
    have f4 : R1 (52 + 7 * b + 4) = nI (if 3 ≤ q then 3 else q + 1) := by rw [← hR1, upd_s, e4]; exact lay_up hq
    have f6 : R1 (52 + 7 * b + 6) = nI (f + 1) := by rw [← hR1]; rw [upd_n (by omega), upd_n (by omega), upd_n (by omega), upd_s, e6, nI_1]
    have hB : BS b R R1 := by rw [← hR1]; exact (((BS.ball (by decide)).trans BS.sev).trans (BS.ball (by decide))).trans (BS.ball (by decide))
    have hd := s_drifts_BS (b := b) (R := R1) (by rw [nR_of (hB.lo 1 (by decide) (by decide))]; exact h18)
    refine ⟨hB.trans hd.1, ?_, hE (by rw [f6, e6, nI_1]) hd.2⟩
    rcases hd.2 with e | e
    · exact okBall_end e f2 (by omega) f6 (by omega)
    · exact okBall_on e f0 f2 (by omega) f6 f4 (by split <;> omega) (by split <;> omega) (fun _ => by omega)
  · rw [if_neg hw0]
    have hw1 : w = 0 := by
      rcases Nat.eq_zero_or_pos w with e | e
      · exact e
      · exact absurd (by rw [e2]; exact nI_lt e (by omega)) hw0
    subst hw1
    generalize hR1 : upd (upd (upd R (52 + 7 * b + 6) (R (52 + 7 * b + 6) + 1)) 7 (R 7 + 1)) (52 + 7 * b + 3) (if R (52 + 7 * b + 3) - 1 < 0 then 0 else R (52 + 7 * b + 3) - 1) = R1
    have f0 : R1 (52 + 7 * b + 0) = 1 := by rw [← hR1]; simp (disch := omega) only [upd_n]; exact hs
    have f2 : R1 (52 + 7 * b + 2) = nI 0 := by rw [← hR1]; simp (disch := omega) only [upd_n]; exact e2
    have f6 : R1 (52 + 7 * b + 6) = nI (f + 1) := by rw [← hR1]; rw [upd_n (by omega), upd_n (by omega), upd_s, e6, nI_1]
    have hB : BS b R R1 := by rw [← hR1]; exact ((BS.ball (by decide)).trans BS.sev).trans (BS.ball (by decide))
    by_cases hl0 : R (52 + 7 * b + 4) = 0
    · rw [if_pos hl0]
      have hd := s_lands_BS (b := b) (R := R1) (by rw [nR_of (hB.lo 1 (by decide) (by decide))]; exact h18)
      exact ⟨hB.trans hd.1, okBall_end hd.2 f2 (by omega) f6 (by omega), hE (by rw [f6, e6, nI_1]) (Or.inl hd.2)⟩
    · rw [if_neg hl0]
      have hq0 : 0 < q := by
        rcases Nat.eq_zero_or_pos q with e | e
        · subst e; exact absurd e4 hl0
        · exact e
      obtain ⟨q1, rfl⟩ : ∃ q1, q = q1 + 1 := ⟨q - 1, by omega⟩
      generalize hR2 : upd R1 (52 + 7 * b + 4) (R (52 + 7 * b + 4) - 1) = R2
      have g0 : R2 (52 + 7 * b + 0) = 1 := by rw [← hR2, upd_n (by omega)]; exact f0
      have g2 : R2 (52 + 7 * b + 2) = nI 0 := by rw [← hR2, upd_n (by omega)]; exact f2
      have g4 : R2 (52 + 7 * b + 4) = nI q1 := by rw [← hR2, upd_s, e4, nI_pred]
      have g6 : R2 (52 + 7 * b + 6) = nI (f + 1) := by rw [← hR2, upd_n (by omega)]; exact f6
      have hB2 : BS b R R2 := by rw [← hR2]; exact hB.trans (BS.ball (by decide))
      have hd := s_drifts_BS (b := b) (R := R2) (by rw [nR_of (hB2.lo 1 (by decide) (by decide))]; exact h18)
      refine ⟨hB2.trans hd.1, ?_, hE (by rw [g6, e6, nI_1]) hd.2⟩
      rcases hd.2 with e | e
      · exact okBall_end e g2 (by omega) g6 (by omega)
      · exact okBall_on e g0 g2 (by omega) g6 g4 (by omega) (by omega) (fun _ => by omega)
theorem RI.ball {R R' : Row} {b : Nat} (h : RI R) (hb : b < nB R) (hs : R (52 + 7 * b + 0) ≠ 0) (hB : BS b R R') (hok : okBall (R' (52 + 7 * b + 0)) (R' (52 + 7 * b + 2)) (R' (52 + 7 * b + 4)) (R' (52 + 7 * b + 5)) (R' (52 + 7 * b + 6))) (hs' : R' (52 + 7 * b + 0) ≠ 0) : RI R' := by
  have e1 := nR_of (hB.lo 1 (by decide) (by decide))
  have e2 := nB_of (hB.lo 2 (by decide) (by decide))
  have e3 := nC_of (hB.lo 3 (by decide) (by decide))
  have e4 := nP_of (hB.lo 4 (by decide) (by decide))
  have hbb := h.h28
  have hr8 := h.h18
  have hp6 := h.h48
  have hc4 := h.h38
  have ot : ∀ b' j, b' ≠ b → j < 7 → b' < 20 → R' (52 + 7 * b' + j) = R (52 + 7 * b' + j) := fun b' j h1 h2 h3 => hB.hi _ (by omega) (by omega)
  refine ⟨by rw [e1, hB.lo 1 (by decide) (by decide)]; exact h.h1, by rw [e1]; exact h.h18, by rw [e2, hB.lo 2 (by decide) (by decide)]; exact h.h2, by rw [e2]; exact h.h28, by rw [e3, hB.lo 3 (by decide) (by decide)]; exact h.h3, by rw [e3]; exact h.h38, by rw [e4, hB.lo 4 (by decide) (by decide)]; exact h.h4, by rw [e4]; exact h.h48, ?_, ?_, ?_, ?_, ?_, ?_, ?_⟩
  · intro r hr
    rw [e1] at hr
    obtain ⟨f0, f1, f2, f3⟩ := hB.rf r (by omega)
    obtain ⟨g0, g1, g2, g3⟩ := h.rf r hr
    rw [f0, f1, f2]
    refine ⟨g0, g1, g2, ?_⟩
    rcases f3 with f3 | f3
    · rw [f3]; exact g3
    · exact Or.inr f3
  · intro r r' hr hr' he
    rw [e1] at hr hr'
    rw [(hB.rf r (by omega)).1, (hB.rf r' (by omega)).1] at he
    exact h.rd r r' hr hr' he
  · intro b' hb'
    rw [e2] at hb'
    by_cases e : b' = b
    · subst e; exact hok
    · rw [ot b' 0 e (by decide) (by omega), ot b' 2 e (by decide) (by omega), ot b' 4 e (by decide) (by omega), ot b' 5 e (by decide) (by omega), ot b' 6 e (by decide) (by omega)]
      exact h.ba b' hb'
  · intro c hc
    rw [e3] at hc
    rw [hB.hi (192 + 3 * c + 0) (by omega) (by omega), hB.hi (192 + 3 * c + 1) (by omega) (by omega)]
    exact h.cr c hc
  · intro p hp
    rw [e4] at hp
    rw [e2, e3, hB.hi (204 + 3 * p + 0) (by omega) (by omega), hB.hi (204 + 3 * p + 1) (by omega) (by omega), hB.hi (204 + 3 * p + 2) (by omega) (by omega)]
    exact h.pl p hp
  · intro p q hpq hq
    rw [e4] at hq
    rw [hB.hi (204 + 3 * p + 0) (by omega) (by omega), hB.hi (204 + 3 * p + 2) (by omega) (by omega), hB.hi (204 + 3 * q + 0) (by omega) (by omega), hB.hi (204 + 3 * q + 2) (by omega) (by omega)]
    exact h.ps p q hpq hq
  · rw [e2, hB.lo 6 (by decide) (by decide), h.la]
    congr 1
    refine (s_lau_c _ fun b' hb' => ?_).symm
    by_cases e : b' = b
    · subst e; exact ⟨fun x => absurd x hs', fun x => absurd x hs⟩
    · rw [ot b' 0 e (by decide) (by omega)]
