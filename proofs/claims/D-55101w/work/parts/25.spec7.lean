/-! TEXTS: how orders are read -/
set_option maxRecDepth 100000
def p_nx (T : Nat → Int32) (n p : Nat) : Int32 := if p < n then T p else -1
/-- a reading: right, the number, the place behind it (or of the fault) -/
abbrev Pn : Type := Bool × Int32 × Nat
def p_dig (T : Nat → Int32) (n p : Nat) : Pn := if inB (p_nx T n p) 48 57 = true then (true, p_nx T n p - 48, p + 1) else (false, 0, p)
def p_num (T : Nat → Int32) (n p : Nat) : Pn :=
  if (p_dig T n p).1 = true then
    (if inB (p_nx T n (p + 1)) 48 57 = true then (true, 10 * (p_dig T n p).2.1 + (p_nx T n (p + 1) - 48), p + 2) else p_dig T n p)
  else (false, 0, p)
def p_drift (T : Nat → Int32) (n p : Nat) : Pn := if p_nx T n p = 45 then ((p_dig T n (p + 1)).1, - (p_dig T n (p + 1)).2.1, (p_dig T n (p + 1)).2.2) else p_dig T n p
abbrev Od : Type := Int32 × Int32 × Int32
def p_tail (T : Nat → Int32) (n : Nat) (c a : Int32) (p : Nat) : Bool × Od × Nat :=
  if c = 119 then (if p_nx T n p = 61 then ((p_drift T n (p + 1)).1, (c, a, (p_drift T n (p + 1)).2.1), (p_drift T n (p + 1)).2.2) else (false, (0, 0, 0), p))
  else if c = 108 then (if p_nx T n p = 64 then ((p_dig T n (p + 1)).1, (c, a, (p_dig T n (p + 1)).2.1), (p_dig T n (p + 1)).2.2) else (false, (0, 0, 0), p))
  else if c = 103 then (if p_nx T n p = 43 then ((p_dig T n (p + 1)).1, (c, a, (p_dig T n (p + 1)).2.1), (p_dig T n (p + 1)).2.2) else (false, (0, 0, 0), p))
  else (true, (c, a, 0), p)
def p_letter (c : Int32) : Bool := decide (c = 119 ∨ c = 108 ∨ c = 103 ∨ c = 111 ∨ c = 112)
def p_first (T : Nat → Int32) (n : Nat) (c : Int32) (p : Nat) : Pn := if c = 119 then p_dig T n p else p_num T n p
def p_ord (T : Nat → Int32) (n p : Nat) : Bool × Od × Nat :=
  if p_letter (p_nx T n p) = true then
    (if (p_first T n (p_nx T n p) (p + 1)).1 = true then p_tail T n (p_nx T n p) (p_first T n (p_nx T n p) (p + 1)).2.1 (p_first T n (p_nx T n p) (p + 1)).2.2
    else (false, (0, 0, 0), (p_first T n (p_nx T n p) (p + 1)).2.2))
  else (false, (0, 0, 0), p)
/-- the whole text: right, the orders, the place of the fault -/
def p_seq (T : Nat → Int32) (n : Nat) : Nat → Nat → Bool × List Od × Nat
  | 0, p => (false, [], p)
  | f + 1, p =>
    if (p_ord T n p).1 = true then
      (if p_nx T n (p_ord T n p).2.2 = 59 then ((p_seq T n f ((p_ord T n p).2.2 + 1)).1, (p_ord T n p).2.1 :: (p_seq T n f ((p_ord T n p).2.2 + 1)).2.1, (p_seq T n f ((p_ord T n p).2.2 + 1)).2.2)
      else (decide (n ≤ (p_ord T n p).2.2), [(p_ord T n p).2.1], (p_ord T n p).2.2))
    else (false, [], (p_ord T n p).2.2)
theorem p_dig_ok {T : Nat → Int32} {n p : Nat} (h : inB (p_nx T n p) 48 57 = true) : p_dig T n p = (true, p_nx T n p - 48, p + 1) := by unfold p_dig; rw [if_pos h]
theorem p_dig_no {T : Nat → Int32} {n p : Nat} (h : ¬ inB (p_nx T n p) 48 57 = true) : p_dig T n p = (false, 0, p) := by unfold p_dig; rw [if_neg h]
theorem p_nx_lt {T : Nat → Int32} {n p : Nat} (h : p_nx T n p ≠ -1) : p < n := by
  unfold p_nx at h
  by_cases e : p < n
  · exact e
  · rw [if_neg e] at h; exact absurd rfl h
theorem p_dig_lt {T : Nat → Int32} {n p : Nat} (h : inB (p_nx T n p) 48 57 = true) : p < n := p_nx_lt (fun e => by rw [e] at h; exact absurd h (by decide))
theorem p_dig_le {T : Nat → Int32} {n p : Nat} (hp : p ≤ n) : p ≤ (p_dig T n p).2.2 ∧ (p_dig T n p).2.2 ≤ n ∧ ((p_dig T n p).1 = true → (p_dig T n p).2.2 = p + 1) := by
  by_cases h : inB (p_nx T n p) 48 57 = true
  · rw [p_dig_ok h]; exact ⟨Nat.le_succ _, p_dig_lt h, fun _ => rfl⟩
  · rw [p_dig_no h]; exact ⟨Nat.le_refl _, hp, fun e => (Bool.false_ne_true e).elim⟩
theorem p_num_le {T : Nat → Int32} {n p : Nat} (hp : p ≤ n) : p ≤ (p_num T n p).2.2 ∧ (p_num T n p).2.2 ≤ n ∧ ((p_num T n p).1 = true → p + 1 ≤ (p_num T n p).2.2) := by
  unfold p_num
  have hd := p_dig_le (T := T) hp
  by_cases h : (p_dig T n p).1 = true
  · rw [if_pos h]
    by_cases h2 : inB (p_nx T n (p + 1)) 48 57 = true
    · rw [if_pos h2]
      have := p_dig_lt h2
      exact ⟨by simp only; omega, by simp only; omega, fun _ => by simp only; omega⟩
    · rw [if_neg h2]
      exact ⟨hd.1, hd.2.1, fun e => by rw [hd.2.2 e]; omega⟩
  · rw [if_neg h]
    exact ⟨Nat.le_refl _, hp, fun e => (Bool.false_ne_true e).elim⟩
theorem p_drift_le {T : Nat → Int32} {n p : Nat} (hp : p ≤ n) : p ≤ (p_drift T n p).2.2 ∧ (p_drift T n p).2.2 ≤ n := by
  unfold p_drift
  by_cases h : p_nx T n p = 45
  · rw [if_pos h]
    have h2 := p_nx_lt (T := T) (n := n) (p := p) (by rw [h]; decide)
    have := p_dig_le (T := T) (n := n) (p := p + 1) h2
    exact ⟨by simp only; omega, this.2.1⟩
  · rw [if_neg h]
    have := p_dig_le (T := T) hp
    exact ⟨this.1, this.2.1⟩
theorem p_first_le {T : Nat → Int32} {n p : Nat} {c : Int32} (hp : p ≤ n) : p ≤ (p_first T n c p).2.2 ∧ (p_first T n c p).2.2 ≤ n ∧ ((p_first T n c p).1 = true → p + 1 ≤ (p_first T n c p).2.2) := by
  unfold p_first
  split
  · have := p_dig_le (T := T) hp
    exact ⟨this.1, this.2.1, fun e => by rw [this.2.2 e]; omega⟩
  · exact p_num_le hp
theorem p_tail_le {T : Nat → Int32} {n p : Nat} {c a : Int32} (hp : p ≤ n) : p ≤ (p_tail T n c a p).2.2 ∧ (p_tail T n c a p).2.2 ≤ n := by
  have key : ∀ q : Int32, q ≠ -1 → p_nx T n p = q → p + 1 ≤ n := fun q hq h => p_nx_lt (by rw [h]; exact hq)
  unfold p_tail
  split
  · split
    · rename_i h; have := p_drift_le (T := T) (key 61 (by decide) h); exact ⟨by simp only; omega, this.2⟩
    · exact ⟨Nat.le_refl _, hp⟩
  · split
    · split
      · rename_i h; have := p_dig_le (T := T) (key 64 (by decide) h); exact ⟨by simp only; omega, this.2.1⟩
      · exact ⟨Nat.le_refl _, hp⟩
    · split
      · split
        · rename_i h; have := p_dig_le (T := T) (key 43 (by decide) h); exact ⟨by simp only; omega, this.2.1⟩
        · exact ⟨Nat.le_refl _, hp⟩
      · exact ⟨Nat.le_refl _, hp⟩
theorem p_letter_ne {c : Int32} (h : p_letter c = true) : c ≠ -1 := fun e => by rw [e] at h; exact absurd h (by decide)
theorem p_ord_le {T : Nat → Int32} {n p : Nat} (hp : p ≤ n) : p ≤ (p_ord T n p).2.2 ∧ (p_ord T n p).2.2 ≤ n ∧ ((p_ord T n p).1 = true → p + 2 ≤ (p_ord T n p).2.2) := by
  unfold p_ord
  split
  · rename_i h
    have h1 := p_nx_lt (p_letter_ne h)
    have h2 := p_first_le (T := T) (n := n) (p := p + 1) (c := p_nx T n p) h1
    split
    · rename_i h3
      have h4 := p_tail_le (T := T) (n := n) (c := p_nx T n p) (a := (p_first T n (p_nx T n p) (p + 1)).2.1) h2.2.1
      have := h2.2.2 h3
      exact ⟨by omega, h4.2, fun _ => by omega⟩
    · exact ⟨by simp only; omega, h2.2.1, fun e => (Bool.false_ne_true e).elim⟩
  · exact ⟨Nat.le_refl _, hp, fun e => (Bool.false_ne_true e).elim⟩
