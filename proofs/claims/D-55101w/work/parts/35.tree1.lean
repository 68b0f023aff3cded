/-! TREES OF ENTRIES, by the bounds of their places in the order (no shape is told: bounds, children, parents) -/
set_option maxRecDepth 100000
abbrev LF : Type := Nat → Option Nat
def fu {α : Type} (f : Nat → α) (k : Nat) (v : α) : Nat → α := fun j => if j = k then v else f j
theorem fu_s {α : Type} {f : Nat → α} {k : Nat} {v : α} : fu f k v k = v := by simp [fu]
theorem fu_n {α : Type} {f : Nat → α} {k j : Nat} {v : α} (h : j ≠ k) : fu f k v j = f j := by simp [fu, h]
theorem fu_id {α : Type} {f : Nat → α} {k : Nat} {v : α} (h : f k = v) : fu f k v = f := by
  funext j
  by_cases e : j = k
  · subst e; rw [fu_s, h]
  · rw [fu_n e]
/-- the tree of the entries S by their keys' numbers κ: children L, Rt, parents P, root rt; every entry stands between lo and hi -/
abbrev TI (S : List Nat) (κ : Nat → Int) (L Rt P : LF) (rt : Option Nat) (lo hi : Nat → Int) : Prop :=
  (∀ e, e ∈ S → lo e < κ e ∧ κ e < hi e ∧ -1099511627776 ≤ lo e ∧ hi e ≤ 1099511627776) ∧
  (∀ e, e ∈ S → L e = none → ∀ x, x ∈ S → lo e < κ x → κ x < κ e → False) ∧
  (∀ e, e ∈ S → ∀ x, L e = some x → x ∈ S ∧ lo x = lo e ∧ hi x = κ e ∧ P x = some e) ∧
  (∀ e, e ∈ S → Rt e = none → ∀ x, x ∈ S → κ e < κ x → κ x < hi e → False) ∧
  (∀ e, e ∈ S → ∀ x, Rt e = some x → x ∈ S ∧ lo x = κ e ∧ hi x = hi e ∧ P x = some e) ∧
  (∀ e, e ∈ S → P e = none → rt = some e) ∧
  (∀ e, e ∈ S → ∀ p, P e = some p → p ∈ S ∧ (L p = some e ∨ Rt p = some e)) ∧
  (rt = none → S = []) ∧
  (∀ r, rt = some r → r ∈ S ∧ lo r = -1099511627776 ∧ hi r = 1099511627776 ∧ P r = none) ∧
  (∀ e, e ∈ S → ∀ x, x ∈ S → κ e = κ x → e = x) ∧
  (∀ e, e ∈ S → ∀ x, x ∈ S → lo e < κ x → κ x < κ e → lo e ≤ lo x ∧ hi x ≤ κ e) ∧
  (∀ e, e ∈ S → ∀ x, x ∈ S → κ e < κ x → κ x < hi e → κ e ≤ lo x ∧ hi x ≤ hi e) ∧
  (∀ e, e ∈ S → hi e = 1099511627776 ∨ ∃ z, z ∈ S ∧ κ z = hi e ∧ lo z ≤ lo e ∧ hi e < hi z) ∧
  (∀ e, e ∈ S → lo e = -1099511627776 ∨ ∃ z, z ∈ S ∧ κ z = lo e ∧ hi e ≤ hi z ∧ lo z < lo e)
/-- seen from the other side -/
theorem TI.mirror {S : List Nat} {κ κ' : Nat → Int} {L Rt P : LF} {rt : Option Nat} {lo hi lo' hi' : Nat → Int} (h : TI S κ L Rt P rt lo hi) (ek : ∀ e, κ' e = - κ e) (el : ∀ e, lo' e = - hi e) (eh : ∀ e, hi' e = - lo e) : TI S κ' Rt L P rt lo' hi' := by
  obtain ⟨a1, a2, a3, a4, a5, a6, a7, a8, a9, b1, b2, b3, b4, b5⟩ := h
  refine ⟨?_, ?_, ?_, ?_, ?_, a6, ?_, a8, ?_, ?_, ?_, ?_, ?_, ?_⟩
  · intro e he; have := a1 e he; rw [el, eh, ek]; omega
  · intro e he h0 x hx h1 h2; rw [el, ek] at h1; rw [ek, ek] at h2; exact a4 e he h0 x hx (by omega) (by omega)
  · intro e he x hx; obtain ⟨c1, c2, c3, c4⟩ := a5 e he x hx; rw [el, el, eh, ek]; exact ⟨c1, by omega, by omega, c4⟩
  · intro e he h0 x hx h1 h2; rw [ek, ek] at h1; rw [ek, eh] at h2; exact a2 e he h0 x hx (by omega) (by omega)
  · intro e he x hx; obtain ⟨c1, c2, c3, c4⟩ := a3 e he x hx; rw [el, eh, eh, ek]; exact ⟨c1, by omega, by omega, c4⟩
  · intro e he p hp; obtain ⟨c1, c2⟩ := a7 e he p hp; exact ⟨c1, c2.symm⟩
  · intro r hr; obtain ⟨c1, c2, c3, c4⟩ := a9 r hr; rw [el, eh]; exact ⟨c1, by omega, by omega, c4⟩
  · intro e he x hx h1; rw [ek, ek] at h1; exact b1 e he x hx (by omega)
  · intro e he x hx h1 h2; rw [el, ek] at h1; rw [ek, ek] at h2; have := b3 e he x hx (by omega) (by omega); rw [el, el, eh, ek]; omega
  · intro e he x hx h1 h2; rw [ek, ek] at h1; rw [ek, eh] at h2; have := b2 e he x hx (by omega) (by omega); rw [el, eh, eh, ek]; omega
  · intro e he
    rw [eh]
    rcases b5 e he with c | ⟨z, hz, c1, c2, c3⟩
    · exact Or.inl (by omega)
    · exact Or.inr ⟨z, hz, by rw [ek]; omega, by rw [el, el]; omega, by rw [eh]; omega⟩
  · intro e he
    rw [el]
    rcases b4 e he with c | ⟨z, hz, c1, c2, c3⟩
    · exact Or.inl (by omega)
    · exact Or.inr ⟨z, hz, by rw [ek]; omega, by rw [eh, eh]; omega, by rw [el]; omega⟩
theorem TI.ext {S : List Nat} {κ κ' : Nat → Int} {L L' Rt Rt' P P' : LF} {rt : Option Nat} {lo hi lo' hi' : Nat → Int} (h : TI S κ L Rt P rt lo hi) (e1 : κ = κ') (e2 : L = L') (e3 : Rt = Rt') (e4 : P = P') (e5 : lo = lo') (e6 : hi = hi') : TI S κ' L' Rt' P' rt lo' hi' := by
  subst e1; subst e2; subst e3; subst e4; subst e5; subst e6; exact h
/-- the first entry -/
theorem TI.single {e : Nat} {κ : Nat → Int} {L Rt P : LF} (h1 : -1099511627776 < κ e) (h2 : κ e < 1099511627776) (hl : L e = none) (hr : Rt e = none) (hp : P e = none) : TI [e] κ L Rt P (some e) (fun _ => -1099511627776) (fun _ => 1099511627776) := by
  have m : ∀ x, x ∈ [e] → x = e := fun x hx => by simpa using hx
  refine ⟨?_, ?_, ?_, ?_, ?_, ?_, ?_, ?_, ?_, ?_, ?_, ?_, ?_, ?_⟩
  · intro x hx; rw [m x hx]; exact ⟨h1, h2, Int.le_refl _, Int.le_refl _⟩
  · intro x hx _ y hy k1 k2; rw [m x hx] at k2; rw [m y hy] at k2; omega
  · intro x hx y hy; rw [m x hx, hl] at hy; cases hy
  · intro x hx _ y hy k1 k2; rw [m x hx] at k1; rw [m y hy] at k1; omega
  · intro x hx y hy; rw [m x hx, hr] at hy; cases hy
  · intro x hx _; rw [m x hx]
  · intro x hx p hq; rw [m x hx, hp] at hq; cases hq
  · intro e; cases e
  · intro r hr; cases hr; exact ⟨by simp, rfl, rfl, hp⟩
  · intro x hx y hy _; rw [m x hx, m y hy]
  · intro x hx y hy k1 k2; rw [m x hx] at k2; rw [m y hy] at k2; omega
  · intro x hx y hy k1 k2; rw [m x hx] at k1; rw [m y hy] at k1; omega
  · intro x hx; exact Or.inl rfl
  · intro x hx; exact Or.inl rfl
/-- a new entry, left below x -/
theorem TI.addL {S : List Nat} {κ : Nat → Int} {L Rt P : LF} {rt : Option Nat} {lo hi : Nat → Int} (h : TI S κ L Rt P rt lo hi) {x e0 : Nat} (hx : x ∈ S) (h0 : e0 ∉ S) (hl : L x = none) (k1 : lo x < κ e0) (k2 : κ e0 < κ x) (hL : L e0 = none) (hR : Rt e0 = none) :
    TI (e0 :: S) κ (fu L x (some e0)) Rt (fu P e0 (some x)) rt (fu lo e0 (lo x)) (fu hi e0 (κ x)) := by
  obtain ⟨a1, a2, a3, a4, a5, a6, a7, a8, a9, b1, b2, b3, b4, b5⟩ := h
  have ne : ∀ e, e ∈ S → e ≠ e0 := fun e he e1 => h0 (e1 ▸ he)
  have hx0 := ne x hx
  have cs : ∀ e, e ∈ e0 :: S → e = e0 ∨ (e ∈ S ∧ e ≠ e0) := fun e he => by
    rcases List.mem_cons.mp he with c | c
    · exact Or.inl c
    · exact Or.inr ⟨c, ne e c⟩
  have hin : ∀ e, e ∈ S → e ∈ e0 :: S := fun e he => List.mem_cons_of_mem _ he
  have h00 : e0 ∈ e0 :: S := List.mem_cons_self
  have nul := a2 x hx hl
  -- where the new key stands to the others
  have gap : ∀ e, e ∈ S → κ e ≤ lo x ∨ κ x ≤ κ e := fun e he => by
    rcases Int.lt_or_le (lo x) (κ e) with c | c
    · rcases Int.lt_or_le (κ e) (κ x) with d | d
      · exact absurd (nul e he c d) (fun f => f)
      · exact Or.inr d
    · exact Or.inl c
  have x1 := a1 x hx
  have up : ∀ e, e ∈ S → lo e < κ e0 → κ e0 < hi e → e = x ∨ (κ e < κ x ∧ κ e ≤ lo x ∧ κ x < hi e) ∨ (κ x < κ e ∧ lo e ≤ lo x) := by
    intro e he c1 c2
    have e1 := a1 e he
    rcases gap e he with g | g
    · right; left
      refine ⟨by omega, g, ?_⟩
      rcases b4 e he with d | ⟨z, hz, d1, d2, d3⟩
      · omega
      · rcases gap z hz with g2 | g2
        · omega
        · rcases Int.lt_or_le (κ x) (hi e) with d4 | d4
          · exact d4
          · have hzx : z = x := b1 z hz x hx (by omega)
            subst hzx
            omega
    · by_cases ex : e = x
      · exact Or.inl ex
      · right; right
        have hne : κ x ≠ κ e := fun f => ex (b1 x hx e he f).symm
        refine ⟨by omega, ?_⟩
        have := b2 e he x hx (by omega) (by omega)
        omega
  refine ⟨?_, ?_, ?_, ?_, ?_, ?_, ?_, ?_, ?_, ?_, ?_, ?_, ?_, ?_⟩
  · intro e he
    rcases cs e he with rfl | ⟨c, d⟩
    · rw [fu_s, fu_s]; omega
    · rw [fu_n d, fu_n d]; exact a1 e c
  · intro e he hn y hy
    rcases cs e he with rfl | ⟨c, d⟩
    · rw [fu_s]
      rcases cs y hy with rfl | ⟨c', d'⟩
      · intro _ k; omega
      · intro j1 j2; have := gap y c'; omega
    · by_cases ex : e = x
      · subst ex; rw [fu_s] at hn; cases hn
      · rw [fu_n ex] at hn
        rw [fu_n d]
        rcases cs y hy with rfl | ⟨c', d'⟩
        · intro j1 j2
          have e1 := a1 e c
          rcases up e c j1 (by omega) with f | f | f
          · exact ex f
          · omega
          · exact a2 e c hn x hx (by omega) (by omega)
        · exact a2 e c hn y c'
  · intro e he y hy
    rcases cs e he with rfl | ⟨c, d⟩
    · rw [fu_n hx0.symm, hL] at hy; cases hy
    · by_cases ex : e = x
      · subst ex; rw [fu_s] at hy; cases hy
        rw [fu_s, fu_s, fu_s, fu_n d]; exact ⟨h00, rfl, rfl, rfl⟩
      · rw [fu_n ex] at hy
        obtain ⟨c1, c2, c3, c4⟩ := a3 e c y hy
        rw [fu_n (ne y c1), fu_n (ne y c1), fu_n (ne y c1), fu_n d]
        exact ⟨hin y c1, c2, c3, c4⟩
  · intro e he hn y hy
    rcases cs e he with rfl | ⟨c, d⟩
    · rw [fu_s]
      rcases cs y hy with rfl | ⟨c', d'⟩
      · intro k _; omega
      · intro j1 j2; have := gap y c'; omega
    · rw [fu_n d]
      rcases cs y hy with rfl | ⟨c', d'⟩
      · intro j1 j2
        have e1 := a1 e c
        rcases up e c (by omega) j2 with f | f | f
        · subst f; omega
        · exact a4 e c hn x hx (by omega) (by omega)
        · omega
      · exact a4 e c hn y c'
  · intro e he y hy
    rcases cs e he with rfl | ⟨c, d⟩
    · rw [hR] at hy; cases hy
    · obtain ⟨c1, c2, c3, c4⟩ := a5 e c y hy
      rw [fu_n (ne y c1), fu_n (ne y c1), fu_n (ne y c1), fu_n d]
      exact ⟨hin y c1, c2, c3, c4⟩
  · intro e he hp
    rcases cs e he with rfl | ⟨c, d⟩
    · rw [fu_s] at hp; cases hp
    · rw [fu_n d] at hp; exact a6 e c hp
  · intro e he p hp
    rcases cs e he with rfl | ⟨c, d⟩
    · rw [fu_s] at hp; cases hp
      exact ⟨hin x hx, Or.inl fu_s⟩
    · rw [fu_n d] at hp
      obtain ⟨c1, c2⟩ := a7 e c p hp
      refine ⟨hin p c1, ?_⟩
      rcases c2 with c2 | c2
      · by_cases px : p = x
        · subst px; rw [hl] at c2; cases c2
        · rw [fu_n px]; exact Or.inl c2
      · exact Or.inr c2
  · intro hn; rw [a8 hn] at hx; cases hx
  · intro r hr
    obtain ⟨c1, c2, c3, c4⟩ := a9 r hr
    rw [fu_n (ne r c1), fu_n (ne r c1), fu_n (ne r c1)]
    exact ⟨hin r c1, c2, c3, c4⟩
  · intro e he y hy hk
    rcases cs e he with rfl | ⟨c, d⟩
    · rcases cs y hy with rfl | ⟨c', d'⟩
      · rfl
      · have := gap y c'; omega
    · rcases cs y hy with rfl | ⟨c', d'⟩
      · have := gap e c; omega
      · exact b1 e c y c' hk
  · intro e he y hy
    rcases cs e he with rfl | ⟨c, d⟩
    · rw [fu_s]
      rcases cs y hy with rfl | ⟨c', d'⟩
      · intro _ k; omega
      · intro j1 j2; have := gap y c'; omega
    · rw [fu_n d]
      rcases cs y hy with rfl | ⟨c', d'⟩
      · intro j1 j2
        rw [fu_s, fu_s]
        have e1 := a1 e c
        rcases up e c j1 (by omega) with f | f | f
        · subst f; omega
        · omega
        · omega
      · rw [fu_n d', fu_n d']; exact b2 e c y c'
  · intro e he y hy
    rcases cs e he with rfl | ⟨c, d⟩
    · rw [fu_s]
      rcases cs y hy with rfl | ⟨c', d'⟩
      · intro k _; omega
      · intro j1 j2; have := gap y c'; omega
    · rw [fu_n d]
      rcases cs y hy with rfl | ⟨c', d'⟩
      · intro j1 j2
        rw [fu_s, fu_s]
        have e1 := a1 e c
        rcases up e c (by omega) j2 with f | f | f
        · subst f; omega
        · omega
        · omega
      · rw [fu_n d', fu_n d']; exact b3 e c y c'
  · intro e he
    rcases cs e he with rfl | ⟨c, d⟩
    · rw [fu_s, fu_s]
      exact Or.inr ⟨x, hin x hx, rfl, by rw [fu_n hx0]; exact Int.le_refl _, by rw [fu_n hx0]; omega⟩
    · rw [fu_n d, fu_n d]
      rcases b4 e c with f | ⟨z, hz, d1, d2, d3⟩
      · exact Or.inl f
      · exact Or.inr ⟨z, hin z hz, d1, by rw [fu_n (ne z hz)]; exact d2, by rw [fu_n (ne z hz)]; exact d3⟩
  · intro e he
    rcases cs e he with rfl | ⟨c, d⟩
    · rw [fu_s, fu_s]
      rcases b5 x hx with f | ⟨z, hz, d1, d2, d3⟩
      · exact Or.inl f
      · exact Or.inr ⟨z, hin z hz, d1, by rw [fu_n (ne z hz)]; omega, by rw [fu_n (ne z hz)]; exact d3⟩
    · rw [fu_n d, fu_n d]
      rcases b5 e c with f | ⟨z, hz, d1, d2, d3⟩
      · exact Or.inl f
      · exact Or.inr ⟨z, hin z hz, d1, by rw [fu_n (ne z hz)]; exact d2, by rw [fu_n (ne z hz)]; exact d3⟩
theorem TI.addR {S : List Nat} {κ : Nat → Int} {L Rt P : LF} {rt : Option Nat} {lo hi : Nat → Int} (h : TI S κ L Rt P rt lo hi) {x e0 : Nat} (hx : x ∈ S) (h0 : e0 ∉ S) (hr : Rt x = none) (k1 : κ x < κ e0) (k2 : κ e0 < hi x) (hL : L e0 = none) (hR : Rt e0 = none) :
    TI (e0 :: S) κ L (fu Rt x (some e0)) (fu P e0 (some x)) rt (fu lo e0 (κ x)) (fu hi e0 (hi x)) := by
  have m := h.mirror (κ' := fun e => - κ e) (lo' := fun e => - hi e) (hi' := fun e => - lo e) (fun _ => rfl) (fun _ => rfl) (fun _ => rfl)
  have a := m.addL hx h0 hr (show - hi x < - κ e0 by omega) (show - κ e0 < - κ x by omega) hR hL
  refine a.mirror (fun e => (Int.neg_neg _).symm) (fun e => ?_) (fun e => ?_)
  · by_cases c : e = e0
    · subst c; rw [fu_s, fu_s]; exact (Int.neg_neg _).symm
    · rw [fu_n c, fu_n c]; exact (Int.neg_neg _).symm
  · by_cases c : e = e0
    · subst c; rw [fu_s, fu_s]; exact (Int.neg_neg _).symm
    · rw [fu_n c, fu_n c]; exact (Int.neg_neg _).symm
/-- turned left at p: its right child r comes up -/
theorem TI.rotL {S : List Nat} {κ : Nat → Int} {L Rt P L' Rt' P' : LF} {rt rt' : Option Nat} {lo hi : Nat → Int} (h : TI S κ L Rt P rt lo hi) {p r : Nat} (hp : p ∈ S) (hr : Rt p = some r)
    (l1 : L' r = some p) (l2 : ∀ e, e ≠ r → P p = some e → L e = some p → L' e = some r) (l3 : ∀ e, e ≠ r → ¬ (P p = some e ∧ L e = some p) → L' e = L e)
    (r1 : Rt' p = L r) (r2 : ∀ e, e ≠ p → P p = some e → L e ≠ some p → Rt' e = some r) (r3 : ∀ e, e ≠ p → ¬ (P p = some e ∧ L e ≠ some p) → Rt' e = Rt e)
    (p1 : P' p = some r) (p2 : P' r = P p) (p3 : ∀ e, e ≠ p → e ≠ r → L r = some e → P' e = some p) (p4 : ∀ e, e ≠ p → e ≠ r → L r ≠ some e → P' e = P e)
    (t1 : P p = none → rt' = some r) (t2 : P p ≠ none → rt' = rt) :
    TI S κ L' Rt' P' rt' (fu lo r (lo p)) (fu hi p (κ r)) := by
  obtain ⟨a1, a2, a3, a4, a5, a6, a7, a8, a9, b1, b2, b3, b4, b5⟩ := h
  obtain ⟨rS, rl, rh, rP⟩ := a5 p hp r hr
  have P1 := a1 p hp
  have R1 := a1 r rS
  have npr : p ≠ r := fun e => by subst e; omega
  have lor : fu lo r (lo p) r = lo p := fu_s
  have hip : fu hi p (κ r) p = κ r := fu_s
  have lon : ∀ e, e ≠ r → fu lo r (lo p) e = lo e := fun e he => fu_n he
  have hin : ∀ e, e ≠ p → fu hi p (κ r) e = hi e := fun e he => fu_n he
  have qp : P p ≠ some p := fun e => by
    rcases (a7 p hp p e).2 with c | c
    · have := a3 p hp p c; omega
    · rw [hr] at c; cases c; exact npr rfl
  have qr : P p ≠ some r := fun e => by
    rcases (a7 p hp r e).2 with c | c
    · have := a3 r rS p c; omega
    · have := a5 r rS p c; omega
  have lrp : L r ≠ some p := fun e => qr (a3 r rS p e).2.2.2
  have lrr : L r ≠ some r := fun e => by have := a3 r rS r e; omega
  generalize fu lo r (lo p) = lo' at *
  generalize fu hi p (κ r) = hi' at *
  refine ⟨?_, ?_, ?_, ?_, ?_, ?_, ?_, ?_, ?_, b1, ?_, ?_, ?_, ?_⟩
  · intro e he
    have E1 := a1 e he
    by_cases ep : e = p
    · subst ep; rw [lon e npr, hip]; omega
    · by_cases er : e = r
      · subst er; rw [lor, hin e ep]; omega
      · rw [lon e er, hin e ep]; exact E1
  · intro e he hn x hx k1 k2
    by_cases er : e = r
    · subst er; rw [l1] at hn; cases hn
    · rw [lon e er] at k1
      by_cases c : P p = some e ∧ L e = some p
      · rw [l2 e er c.1 c.2] at hn; cases hn
      · rw [l3 e er c] at hn; exact a2 e he hn x hx k1 k2
  · intro e he x hx
    by_cases er : e = r
    · subst er; rw [l1] at hx; cases hx
      exact ⟨hp, by rw [lor, lon p npr], hip, p1⟩
    · by_cases c : P p = some e ∧ L e = some p
      · rw [l2 e er c.1 c.2] at hx; cases hx
        have d := a3 e he p c.2
        have ep : e ≠ p := fun f => qp (f ▸ c.1)
        exact ⟨rS, by rw [lor, lon e er]; exact d.2.1, by rw [hin r npr.symm]; omega, by rw [p2]; exact c.1⟩
      · rw [l3 e er c] at hx
        obtain ⟨xS, d1, d2, d3⟩ := a3 e he x hx
        have xp : x ≠ p := fun f => c ⟨f ▸ d3, f ▸ hx⟩
        have xr : x ≠ r := fun f => by
          subst f
          rw [rP] at d3; cases d3
          omega
        have lx : L r ≠ some x := fun f => er (by have := (a3 r rS x f).2.2.2; rw [d3] at this; cases this; rfl)
        exact ⟨xS, by rw [lon x xr, lon e er]; exact d1, by rw [hin x xp]; exact d2, by rw [p4 x xp xr lx]; exact d3⟩
  · intro e he hn x hx k1 k2
    by_cases ep : e = p
    · subst ep
      rw [hip] at k2; rw [r1] at hn
      exact a2 r rS hn x hx (by omega) k2
    · rw [hin e ep] at k2
      by_cases c : P p = some e ∧ L e ≠ some p
      · rw [r2 e ep c.1 c.2] at hn; cases hn
      · rw [r3 e ep c] at hn; exact a4 e he hn x hx k1 k2
  · intro e he x hx
    by_cases ep : e = p
    · subst ep
      rw [r1] at hx
      obtain ⟨xS, d1, d2, d3⟩ := a3 r rS x hx
      have xp : x ≠ e := fun f => lrp (f ▸ hx)
      have xr : x ≠ r := fun f => lrr (f ▸ hx)
      exact ⟨xS, by rw [lon x xr]; omega, by rw [hin x xp, hip]; exact d2, p3 x xp xr hx⟩
    · by_cases c : P p = some e ∧ L e ≠ some p
      · rw [r2 e ep c.1 c.2] at hx; cases hx
        have er : e ≠ r := fun f => qr (f ▸ c.1)
        have d : Rt e = some p := by
          rcases (a7 p hp e c.1).2 with f | f
          · exact absurd f c.2
          · exact f
        have d' := a5 e he p d
        exact ⟨rS, by rw [lor]; exact d'.2.1, by rw [hin r npr.symm, hin e ep]; omega, by rw [p2]; exact c.1⟩
      · rw [r3 e ep c] at hx
        obtain ⟨xS, d1, d2, d3⟩ := a5 e he x hx
        have xp : x ≠ p := fun f => by
          subst f
          have lp : L e = some x := Classical.byContradiction fun g => c ⟨d3, g⟩
          have := a3 e he x lp
          omega
        have xr : x ≠ r := fun f => by subst f; rw [rP] at d3; cases d3; exact ep rfl
        by_cases er : e = r
        · subst er
          have lx : L e ≠ some x := fun f => by have := a3 e he x f; have := a1 e he; omega
          exact ⟨xS, by rw [lon x xr]; exact d1, by rw [hin x xp, hin e ep]; exact d2, by rw [p4 x xp xr lx]; exact d3⟩
        · have lx : L r ≠ some x := fun f => er (by have := (a3 r rS x f).2.2.2; rw [d3] at this; cases this; rfl)
          exact ⟨xS, by rw [lon x xr]; exact d1, by rw [hin x xp, hin e ep]; exact d2, by rw [p4 x xp xr lx]; exact d3⟩
  · intro e he hn
    by_cases ep : e = p
    · subst ep; rw [p1] at hn; cases hn
    · by_cases er : e = r
      · subst er; rw [p2] at hn; exact t1 hn
      · by_cases c : L r = some e
        · rw [p3 e ep er c] at hn; cases hn
        · rw [p4 e ep er c] at hn
          have := a6 e he hn
          by_cases d : P p = none
          · have := a6 p hp d; simp_all
          · rw [t2 d]; exact this
  · intro e he q hq
    by_cases ep : e = p
    · subst ep; rw [p1] at hq; cases hq; exact ⟨rS, Or.inl l1⟩
    · by_cases er : e = r
      · subst er; rw [p2] at hq
        obtain ⟨qS, d⟩ := a7 p hp q hq
        refine ⟨qS, ?_⟩
        have q1 : q ≠ p := fun f => qp (f ▸ hq)
        have q2 : q ≠ e := fun f => qr (f ▸ hq)
        by_cases c : L q = some p
        · exact Or.inl (l2 q q2 hq c)
        · exact Or.inr (r2 q q1 hq c)
      · by_cases c : L r = some e
        · rw [p3 e ep er c] at hq; cases hq; exact ⟨hp, Or.inr (by rw [r1]; exact c)⟩
        · rw [p4 e ep er c] at hq
          obtain ⟨qS, d⟩ := a7 e he q hq
          refine ⟨qS, ?_⟩
          rcases d with d | d
          · left
            have q2 : q ≠ r := fun f => c (f ▸ d)
            rw [l3 q q2 (fun g => by rw [d] at g; cases g.2; exact ep rfl)]; exact d
          · right
            have q1 : q ≠ p := fun f => by subst f; rw [hr] at d; cases d; exact er rfl
            rw [r3 q q1 (fun g => by
              rcases (a7 p hp q g.1).2 with f | f
              · exact g.2 f
              · rw [d] at f; cases f; exact ep rfl)]; exact d
  · intro hn
    by_cases d : P p = none
    · rw [t1 d] at hn; cases hn
    · rw [t2 d] at hn; exact a8 hn
  · intro r' hr'
    by_cases d : P p = none
    · rw [t1 d] at hr'; cases hr'
      have := a9 p (a6 p hp d)
      exact ⟨rS, by rw [lor]; exact this.2.1, by rw [hin r npr.symm, rh]; exact this.2.2.1, by rw [p2]; exact d⟩
    · rw [t2 d] at hr'
      obtain ⟨c1, c2, c3, c4⟩ := a9 r' hr'
      have e1 : r' ≠ p := fun f => d (f ▸ c4)
      have e2 : r' ≠ r := fun f => by rw [f, rP] at c4; cases c4
      have e3 : L r ≠ some r' := fun f => by have := (a3 r rS r' f).2.2.2; rw [c4] at this; cases this
      exact ⟨c1, by rw [lon r' e2]; exact c2, by rw [hin r' e1]; exact c3, by rw [p4 r' e1 e2 e3]; exact c4⟩
  · intro e he x hx k1 k2
    have E1 := a1 e he
    have X1 := a1 x hx
    by_cases er : e = r
    · subst er; rw [lor] at k1; rw [lor]
      by_cases xp : x = p
      · subst xp; rw [lon x npr, hip]; omega
      · have xr : x ≠ e := fun f => by subst f; omega
        rw [lon x xr, hin x xp]
        have kne : κ x ≠ κ p := fun f => xp (b1 x hx p hp f)
        by_cases c : κ x < κ p
        · have := b2 p hp x hx k1 c; omega
        · have := b2 e he x hx (by omega) k2; omega
    · rw [lon e er] at k1; rw [lon e er]
      by_cases xp : x = p
      · subst xp; rw [lon x npr, hip]
        have := b2 e he x hx k1 k2; omega
      · rw [hin x xp]
        by_cases xr : x = r
        · subst xr; rw [lor]
          have d := b2 e he x hx k1 k2
          by_cases c : lo e < κ p
          · have := b2 e he p hp c (by omega); omega
          · rcases b5 e he with f | ⟨z, hz, f1, f2, f3⟩
            · omega
            · have : z = p := b1 z hz p hp (by omega)
              subst this; omega
        · rw [lon x xr]; exact b2 e he x hx k1 k2
  · intro e he x hx k1 k2
    have E1 := a1 e he
    have X1 := a1 x hx
    by_cases ep : e = p
    · subst ep; rw [hip] at k2; rw [hip]
      have xp : x ≠ e := fun f => by subst f; omega
      have xr : x ≠ r := fun f => by subst f; omega
      rw [lon x xr, hin x xp]
      have := b2 r rS x hx (by omega) k2; omega
    · rw [hin e ep] at k2; rw [hin e ep]
      by_cases er : e = r
      · subst er
        have xp : x ≠ p := fun f => by subst f; omega
        have xr : x ≠ e := fun f => by subst f; omega
        rw [lon x xr, hin x xp]; exact b3 e he x hx k1 k2
      · by_cases xp : x = p
        · subst xp; rw [lon x npr, hip]
          have := b3 e he x hx k1 k2; omega
        · rw [hin x xp]
          by_cases xr : x = r
          · subst xr; rw [lor]
            have d := b3 e he x hx k1 k2
            have kne : κ e ≠ κ p := fun f => ep (b1 e he p hp f)
            have := b3 e he p hp (by omega) (by omega); omega
          · rw [lon x xr]; exact b3 e he x hx k1 k2
  · intro e he
    have E1 := a1 e he
    by_cases ep : e = p
    · subst ep; rw [hip, lon e npr]
      exact Or.inr ⟨r, rS, rfl, by rw [lor]; exact Int.le_refl _, by rw [hin r npr.symm]; omega⟩
    · rw [hin e ep]
      by_cases er : e = r
      · subst er; rw [lor]
        rcases b4 p hp with c | ⟨z, hz, c1, c2, c3⟩
        · exact Or.inl (by omega)
        · have zp : z ≠ p := fun f => by subst f; omega
          have zr : z ≠ e := fun f => by subst f; omega
          exact Or.inr ⟨z, hz, by omega, by rw [lon z zr]; exact c2, by rw [hin z zp]; omega⟩
      · rw [lon e er]
        rcases b4 e he with c | ⟨z, hz, c1, c2, c3⟩
        · exact Or.inl c
        · refine Or.inr ⟨z, hz, c1, ?_, ?_⟩
          · by_cases zr : z = r
            · subst zr; rw [lor]; omega
            · rw [lon z zr]; exact c2
          · by_cases zp : z = p
            · subst zp; rw [hip]; omega
            · rw [hin z zp]; exact c3
  · intro e he
    have E1 := a1 e he
    have key : ∀ z, z ∈ S → κ z = lo p → hi p ≤ hi z → lo z < lo p → z ≠ p ∧ z ≠ r := fun z hz c1 c2 c3 => ⟨fun f => by subst f; omega, fun f => by subst f; omega⟩
    by_cases er : e = r
    · subst er; rw [lor, hin e npr.symm]
      rcases b5 p hp with c | ⟨z, hz, c1, c2, c3⟩
      · exact Or.inl c
      · obtain ⟨zp, zr⟩ := key z hz c1 c2 c3
        exact Or.inr ⟨z, hz, c1, by rw [hin z zp]; omega, by rw [lon z zr]; exact c3⟩
    · rw [lon e er]
      by_cases ep : e = p
      · subst ep; rw [hip]
        rcases b5 e he with c | ⟨z, hz, c1, c2, c3⟩
        · exact Or.inl c
        · obtain ⟨zp, zr⟩ := key z hz c1 c2 c3
          exact Or.inr ⟨z, hz, c1, by rw [hin z zp]; omega, by rw [lon z zr]; exact c3⟩
      · rw [hin e ep]
        rcases b5 e he with c | ⟨z, hz, c1, c2, c3⟩
        · exact Or.inl c
        · refine Or.inr ⟨z, hz, c1, ?_, ?_⟩
          · by_cases zp : z = p
            · subst zp; rw [hip]
              have kne : κ e ≠ κ r := fun f => er (b1 e he r rS f)
              by_cases c : κ e < κ r
              · have := b2 r rS e he (by omega) c; omega
              · have := b2 e he r rS (by omega) (by omega); omega
            · rw [hin z zp]; exact c2
          · by_cases zr : z = r
            · subst zr; rw [lor]; omega
            · rw [lon z zr]; exact c3
/-- turned right at p: its left child r comes up -/
theorem TI.rotR {S : List Nat} {κ : Nat → Int} {L Rt P L' Rt' P' : LF} {rt rt' : Option Nat} {lo hi : Nat → Int} (h : TI S κ L Rt P rt lo hi) {p r : Nat} (hp : p ∈ S) (hr : L p = some r)
    (l1 : Rt' r = some p) (l2 : ∀ e, e ≠ r → P p = some e → Rt e = some p → Rt' e = some r) (l3 : ∀ e, e ≠ r → ¬ (P p = some e ∧ Rt e = some p) → Rt' e = Rt e)
    (r1 : L' p = Rt r) (r2 : ∀ e, e ≠ p → P p = some e → Rt e ≠ some p → L' e = some r) (r3 : ∀ e, e ≠ p → ¬ (P p = some e ∧ Rt e ≠ some p) → L' e = L e)
    (p1 : P' p = some r) (p2 : P' r = P p) (p3 : ∀ e, e ≠ p → e ≠ r → Rt r = some e → P' e = some p) (p4 : ∀ e, e ≠ p → e ≠ r → Rt r ≠ some e → P' e = P e)
    (t1 : P p = none → rt' = some r) (t2 : P p ≠ none → rt' = rt) :
    TI S κ L' Rt' P' rt' (fu lo p (κ r)) (fu hi r (hi p)) := by
  have m := h.mirror (κ' := fun e => - κ e) (lo' := fun e => - hi e) (hi' := fun e => - lo e) (fun _ => rfl) (fun _ => rfl) (fun _ => rfl)
  have a := m.rotL hp hr l1 l2 l3 r1 r2 r3 p1 p2 p3 p4 t1 t2
  refine a.mirror (fun e => (Int.neg_neg _).symm) (fun e => ?_) (fun e => ?_)
  · by_cases c : e = p
    · subst c; rw [fu_s, fu_s]; exact (Int.neg_neg _).symm
    · rw [fu_n c, fu_n c]; exact (Int.neg_neg _).symm
  · by_cases c : e = r
    · subst c; rw [fu_s, fu_s]; exact (Int.neg_neg _).symm
    · rw [fu_n c, fu_n c]; exact (Int.neg_neg _).symm
