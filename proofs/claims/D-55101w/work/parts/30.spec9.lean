/-! OUTCOMES, 4: accounts, floats -/
set_option maxRecDepth 100000
def s_inSt (R : Row) (st : Int32) : Int32 := s_sum (nB R) (fun b => if R (52 + 7 * b + 0) = st then 1 else 0)
def s_busy (R : Row) : Int32 := s_sum (nC R) (fun c => if 0 < R (192 + 3 * c + 1) then 1 else 0)
def s_did (R : Row) : Int32 := s_sum (nC R) (fun c => R (192 + 3 * c + 2))
def s_flew (R : Row) : Int32 := s_sum (nB R) (fun b => R (52 + 7 * b + 6))
/-- the account; fed and kept stand outside the row -/
def q_account (R : Row) (fed kept what : Int32) : Qa :=
  if inB what 5 9 = true then (0, s_inSt R (what - 5))
  else if what = 0 then (0, R 0)
  else if what = 1 then (0, R 1)
  else if what = 2 then (0, s_with R 2)
  else if what = 3 then (0, s_with R 3)
  else if what = 4 then (0, R 2)
  else if what = 10 then (0, R 3)
  else if what = 11 then (0, s_busy R)
  else if what = 12 then (0, R 4)
  else if what = 13 then (0, R 5)
  else if what = 14 then (0, R 6)
  else if what = 15 then (0, R 7)
  else if what = 16 then (0, fed)
  else if what = 17 then (0, kept)
  else (1, 0)
def s_well (R : Row) : Bool := decide (s_did R = R 6 ∧ R 2 - s_inSt R 0 = R 6 ∧ s_flew R = R 7)
theorem RI.ready0 {R : Row} {b : Nat} (h : RI R) (hb : b < nB R) (h0 : R (52 + 7 * b + 0) = 0) : R (52 + 7 * b + 6) = 0 := by
  obtain ⟨s, w, f, e0, h4, -, -, e6, -, hf, -⟩ := h.ba b hb
  rw [h0] at e0
  rw [e6, hf ((nI_eq (by omega) (by decide)).mp (e0.symm.trans (show (0 : Int32) = nI 0 from rfl)))]
  rfl
theorem acc_cases {w : Int32} (h0 : ¬ w.toInt < 0) (h1 : ¬ 17 < w.toInt) (h : ¬ inB w 5 9 = true) : w = 0 ∨ w = 1 ∨ w = 2 ∨ w = 3 ∨ w = 4 ∨ w = 10 ∨ w = 11 ∨ w = 12 ∨ w = 13 ∨ w = 14 ∨ w = 15 ∨ w = 16 ∨ w = 17 := by
  have h2 : ¬ (5 ≤ w ∧ w ≤ 9) := fun e => h (inB_t.mpr e)
  rw [Int32.le_iff_toInt_le, Int32.le_iff_toInt_le, show (5 : Int32).toInt = 5 by decide, show (9 : Int32).toInt = 9 by decide] at h2
  have key : ∀ k : Int32, w.toInt = k.toInt → w = k := fun k => Int32.toInt_inj.mp
  have c : w.toInt = 0 ∨ w.toInt = 1 ∨ w.toInt = 2 ∨ w.toInt = 3 ∨ w.toInt = 4 ∨ w.toInt = 10 ∨ w.toInt = 11 ∨ w.toInt = 12 ∨ w.toInt = 13 ∨ w.toInt = 14 ∨ w.toInt = 15 ∨ w.toInt = 16 ∨ w.toInt = 17 := by omega
  rcases c with c | c | c | c | c | c | c | c | c | c | c | c | c
  · exact Or.inl (key 0 c)
  · exact Or.inr (Or.inl (key 1 c))
  · exact Or.inr (Or.inr (Or.inl (key 2 c)))
  · exact Or.inr (Or.inr (Or.inr (Or.inl (key 3 c))))
  · exact Or.inr (Or.inr (Or.inr (Or.inr (Or.inl (key 4 c)))))
  · exact Or.inr (Or.inr (Or.inr (Or.inr (Or.inr (Or.inl (key 10 c))))))
  · exact Or.inr (Or.inr (Or.inr (Or.inr (Or.inr (Or.inr (Or.inl (key 11 c)))))))
  · exact Or.inr (Or.inr (Or.inr (Or.inr (Or.inr (Or.inr (Or.inr (Or.inl (key 12 c))))))))
  · exact Or.inr (Or.inr (Or.inr (Or.inr (Or.inr (Or.inr (Or.inr (Or.inr (Or.inl (key 13 c)))))))))
  · exact Or.inr (Or.inr (Or.inr (Or.inr (Or.inr (Or.inr (Or.inr (Or.inr (Or.inr (Or.inl (key 14 c))))))))))
  · exact Or.inr (Or.inr (Or.inr (Or.inr (Or.inr (Or.inr (Or.inr (Or.inr (Or.inr (Or.inr (Or.inl (key 15 c)))))))))))
  · exact Or.inr (Or.inr (Or.inr (Or.inr (Or.inr (Or.inr (Or.inr (Or.inr (Or.inr (Or.inr (Or.inr (Or.inl (key 16 c))))))))))))
  · exact Or.inr (Or.inr (Or.inr (Or.inr (Or.inr (Or.inr (Or.inr (Or.inr (Or.inr (Or.inr (Or.inr (Or.inr (key 17 c))))))))))))
theorem acc_out {w : Int32} {R : Row} {fed kept : Int32} (h : w.toInt < 0 ∨ 17 < w.toInt) (h2 : ¬ inB w 5 9 = true) : q_account R fed kept w = (1, 0) := by
  have ne : ∀ k : Int32, 0 ≤ k.toInt → k.toInt ≤ 17 → w ≠ k := fun k h3 h4 e => by subst e; omega
  unfold q_account
  rw [if_neg h2, if_neg (ne 0 (by decide) (by decide)), if_neg (ne 1 (by decide) (by decide)), if_neg (ne 2 (by decide) (by decide)), if_neg (ne 3 (by decide) (by decide)), if_neg (ne 4 (by decide) (by decide)), if_neg (ne 10 (by decide) (by decide)), if_neg (ne 11 (by decide) (by decide)), if_neg (ne 12 (by decide) (by decide)), if_neg (ne 13 (by decide) (by decide)), if_neg (ne 14 (by decide) (by decide)), if_neg (ne 15 (by decide) (by decide)), if_neg (ne 16 (by decide) (by decide)), if_neg (ne 17 (by decide) (by decide))]
