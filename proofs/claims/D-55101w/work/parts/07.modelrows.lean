/-! THE MODEL's CELLS: its fields of numbers I (by field), its row R, its other arrays N (by the field that holds them), laid over a heap; rows for its own code -/
set_option maxRecDepth 100000
def mAd : List Nat := [21, 0, 1, 2, 3, 4, 12, 13, 14, 15]
def szM : Nat → Nat
  | 4 => 1776 | 12 => 60 | 13 => 32 | 14 => 32 | 15 => 32 | _ => 222
def mOK (A : Nat → Nat) : Prop := ∀ i ∈ mAd, ∀ j ∈ mAd, A i = A j → i = j
abbrev mO (A : Nat → Nat) (I : Nat → Int32) : hE := oB 5 [.ref (A 0), .ref (A 1), .ref (A 2), .ref (A 3), .ref (A 4), .int (I 5), .int (I 6), .int (I 7), .int (I 8), .int (I 9), .int (I 10), .int (I 11), .ref (A 12), .ref (A 13), .ref (A 14), .ref (A 15), .int (I 16), .int (I 17), .int (I 18), .int (I 19), .int (I 20)]
def mC (A : Nat → Nat) (I R : Nat → Int32) (N : Nat → Nat → Int32) : Nat → hE
  | 21 => mO A I
  | 0 => aI 0 222 R
  | k => aI 0 (szM k) (N k)
def mW (h : hp) (A : Nat → Nat) (I R : Nat → Int32) (N : Nat → Nat → Int32) : hp := fun q => match mAd.find? (fun k => A k == q) with
  | some k => some (mC A I R N k)
  | none => h q
def uI (f : Nat → Int32) (k : Nat) (v : Int32) : Nat → Int32 := fun j => if j = k then v else f j
def uA (f : Nat → Nat → Int32) (k : Nat) (a : Nat → Int32) : Nat → Nat → Int32 := fun j => if j = k then a else f j
theorem mFind {A : Nat → Nat} (hA : mOK A) {k : Nat} (hk : k ∈ mAd) : mAd.find? (fun j => A j == A k) = some k := by
  have key : ∀ l : List Nat, (∀ j ∈ l, j ∈ mAd) → k ∈ l → l.find? (fun j => A j == A k) = some k := by
    intro l
    induction l with
    | nil => intro _ h; cases h
    | cons j l ih =>
      intro hl h
      by_cases e : A j = A k
      · have := hA j (hl j List.mem_cons_self) k hk e
        subst this
        simp
      · have hne : k ≠ j := fun z => e (by rw [z])
        have e2 : (A j == A k) = false := by simp [e]
        rw [List.find?_cons, e2]
        exact ih (fun x hx => hl x (List.mem_cons_of_mem _ hx)) ((List.mem_cons.mp h).resolve_left hne)
  exact key mAd (fun _ h => h) hk
theorem mW_at {h : hp} {A : Nat → Nat} {I R : Nat → Int32} {N : Nat → Nat → Int32} (hA : mOK A) {k : Nat} (hk : k ∈ mAd) : mW h A I R N (A k) = some (mC A I R N k) := by
  simp only [mW, mFind hA hk]
theorem mW_mo {h : hp} {A : Nat → Nat} {I R : Nat → Int32} {N : Nat → Nat → Int32} (hA : mOK A) : mW h A I R N (A 21) = some (mO A I) := mW_at hA (by decide)
theorem mW_no {h : hp} {A : Nat → Nat} {I R : Nat → Int32} {N : Nat → Nat → Int32} (hA : mOK A) : mW h A I R N (A 0) = some (aI 0 222 R) := mW_at hA (by decide)
theorem mAd_cases {k : Nat} {P : Nat → Prop} (hk : k ∈ mAd) (h21 : P 21) (h0 : P 0) (h1 : P 1) (h2 : P 2) (h3 : P 3) (h4 : P 4) (h12 : P 12) (h13 : P 13) (h14 : P 14) (h15 : P 15) : P k := by
  simp only [mAd, List.mem_cons, List.not_mem_nil, or_false] at hk
  rcases hk with rfl | rfl | rfl | rfl | rfl | rfl | rfl | rfl | rfl | rfl <;> assumption
theorem mC_ot {A : Nat → Nat} {I R : Nat → Int32} {N : Nat → Nat → Int32} {k : Nat} (h21 : k ≠ 21) (h0 : k ≠ 0) : mC A I R N k = aI 0 (szM k) (N k) := by
  unfold mC
  split
  · exact absurd rfl h21
  · exact absurd rfl h0
  · rfl
theorem mW_ot {h : hp} {A : Nat → Nat} {I R : Nat → Int32} {N : Nat → Nat → Int32} (hA : mOK A) {k : Nat} (hk : k ∈ mAd) (h21 : k ≠ 21) (h0 : k ≠ 0) : mW h A I R N (A k) = some (aI 0 (szM k) (N k)) := by
  rw [mW_at hA hk, mC_ot h21 h0]
theorem mW_put {h : hp} {A : Nat → Nat} {I R I' R' : Nat → Int32} {N N' : Nat → Nat → Int32} (hA : mOK A) {k : Nat} {e : hE} (hk : k ∈ mAd) (he : e = mC A I' R' N' k) (hs : ∀ j ∈ mAd, j ≠ k → mC A I R N j = mC A I' R' N' j) : hu (mW h A I R N) (A k) e = mW h A I' R' N' := by
  funext q
  by_cases hq : q = A k
  · subst hq
    rw [hu_s, mW_at hA hk, he]
  · rw [hu_n hq]
    unfold mW
    cases hf : mAd.find? (fun k => A k == q) with
    | none => rfl
    | some j =>
      have h1 := List.find?_some hf
      have h2 := List.mem_of_find?_eq_some hf
      simp only [beq_iff_eq] at h1
      simp only
      rw [hs j h2 (fun e => hq (by rw [← e, h1]))]
theorem mW_pi {h : hp} {A : Nat → Nat} {I R : Nat → Int32} {N : Nat → Nat → Int32} {e : hE} (hA : mOK A) {k : Nat} {v : Int32} (he : e = mO A (uI I k v)) : hu (mW h A I R N) (A 21) e = mW h A (uI I k v) R N := by
  refine mW_put hA (by decide) he fun j hj hne => ?_
  by_cases h0 : j = 0
  · subst h0; rfl
  · rw [mC_ot hne h0, mC_ot hne h0]
theorem mW_pn {h : hp} {A : Nat → Nat} {I R : Nat → Int32} {N : Nat → Nat → Int32} (hA : mOK A) {f : Nat → Int32} : hu (mW h A I R N) (A 0) (aI 0 222 f) = mW h A I f N := by
  refine mW_put hA (by decide) rfl fun j hj hne => ?_
  by_cases h0 : j = 21
  · subst h0; rfl
  · rw [mC_ot h0 hne, mC_ot h0 hne]
theorem mW_pa {h : hp} {A : Nat → Nat} {I R : Nat → Int32} {N : Nat → Nat → Int32} (hA : mOK A) {k : Nat} {f : Nat → Int32} (hk : k ∈ mAd) (h21 : k ≠ 21) (h0 : k ≠ 0) : hu (mW h A I R N) (A k) (aI 0 (szM k) f) = mW h A I R (uA N k f) := by
  refine mW_put hA hk ?_ fun j hj hne => ?_
  · rw [mC_ot h21 h0]; simp [uA]
  · by_cases e1 : j = 21
    · subst e1; rfl
    · by_cases e2 : j = 0
      · subst e2; rfl
      · rw [mC_ot e1 e2, mC_ot e1 e2]; simp [uA, hne]
theorem uA_uA {N : Nat → Nat → Int32} {k : Nat} {f f' : Nat → Int32} : uA (uA N k f) k f' = uA N k f' := by
  funext j; simp only [uA]; split <;> rfl
theorem uI_uI {N : Nat → Int32} {k : Nat} {f f' : Int32} : uI (uI N k f) k f' = uI N k f' := by
  funext j; simp only [uI]; split <;> rfl
theorem uA_self {N : Nat → Nat → Int32} {k : Nat} : uA N k (N k) = N := by
  funext j; simp only [uA]; split <;> simp_all
theorem uA_at {N : Nat → Nat → Int32} {k : Nat} {f : Nat → Int32} : uA N k f k = f := by simp [uA]
theorem uA_ne {N : Nat → Nat → Int32} {k j : Nat} {f : Nat → Int32} (h : j ≠ k) : uA N k f j = N j := by simp [uA, h]
section MROWS
variable {l : Launch} {g : gT} {X : CX} {K : KX} {P : pT} {E : eT} {n k pc : Nat} {L : List (Option Value)} {st : List Value} {h : hp} {A : Nat → Nat} {I R : Nat → Int32} {N : Nat → Nat → Int32}
theorem m_ldn {i : Nat} {z : Int32} (hA : mOK A) (hd : decode K.cc pc = .ok (.iaload, 1)) (hi : ixI z i) (hb : i < 222) (w : Wk l g X K P E n k (pc + 1) L (.int (R i) :: st) (mW h A I R N)) : Wk l g X K P E n k pc L (.int z :: .ref (A 0) :: st) (mW h A I R N) :=
  k_iald hd (mW_no hA) hi hb w
theorem m_stn {i : Nat} {z x : Int32} (hA : mOK A) (hd : decode K.cc pc = .ok (.iastore, 1)) (hi : ixI z i) (hb : i < 222) (w : Wk l g X K P E n k (pc + 1) L st (mW h A I (upd R i x) N)) : Wk l g X K P E n k pc L (.int x :: .int z :: .ref (A 0) :: st) (mW h A I R N) :=
  k_iast hd (mW_no hA) hi hb (Wk.heap (mW_pn hA).symm w)
theorem m_ld {j i : Nat} {z : Int32} (hA : mOK A) (hj : j ∈ mAd) (h21 : j ≠ 21) (h0 : j ≠ 0) (hd : decode K.cc pc = .ok (.iaload, 1)) (hi : ixI z i) (hb : i < szM j) (w : Wk l g X K P E n k (pc + 1) L (.int (N j i) :: st) (mW h A I R N)) : Wk l g X K P E n k pc L (.int z :: .ref (A j) :: st) (mW h A I R N) :=
  k_iald hd (mW_ot hA hj h21 h0) hi hb w
theorem m_st {j i : Nat} {z x : Int32} (hA : mOK A) (hj : j ∈ mAd) (h21 : j ≠ 21) (h0 : j ≠ 0) (hd : decode K.cc pc = .ok (.iastore, 1)) (hi : ixI z i) (hb : i < szM j) (w : Wk l g X K P E n k (pc + 1) L st (mW h A I R (uA N j (upd (N j) i x)))) : Wk l g X K P E n k pc L (.int x :: .int z :: .ref (A j) :: st) (mW h A I R N) :=
  k_iast hd (mW_ot hA hj h21 h0) hi hb (Wk.heap (mW_pa hA hj h21 h0).symm w)
theorem m_g0 {idx : Nat} (hA : mOK A) (f : FGs K.own idx 5 0) (hd : decode K.cc pc = .ok (.getfield idx, 3)) (w : Wk l g X K P E n k (pc + 3) L (.ref (A 0) :: st) (mW h A I R N)) : Wk l g X K P E n k pc L (.ref (A 21) :: st) (mW h A I R N) := k_g0 f hd (mW_mo hA) w
theorem m_g1 {idx : Nat} (hA : mOK A) (f : FGs K.own idx 5 1) (hd : decode K.cc pc = .ok (.getfield idx, 3)) (w : Wk l g X K P E n k (pc + 3) L (.ref (A 1) :: st) (mW h A I R N)) : Wk l g X K P E n k pc L (.ref (A 21) :: st) (mW h A I R N) := k_g1 f hd (mW_mo hA) w
theorem m_g2 {idx : Nat} (hA : mOK A) (f : FGs K.own idx 5 2) (hd : decode K.cc pc = .ok (.getfield idx, 3)) (w : Wk l g X K P E n k (pc + 3) L (.ref (A 2) :: st) (mW h A I R N)) : Wk l g X K P E n k pc L (.ref (A 21) :: st) (mW h A I R N) := k_g2 f hd (mW_mo hA) w
theorem m_g3 {idx : Nat} (hA : mOK A) (f : FGs K.own idx 5 3) (hd : decode K.cc pc = .ok (.getfield idx, 3)) (w : Wk l g X K P E n k (pc + 3) L (.ref (A 3) :: st) (mW h A I R N)) : Wk l g X K P E n k pc L (.ref (A 21) :: st) (mW h A I R N) := k_g3 f hd (mW_mo hA) w
theorem m_g4 {idx : Nat} (hA : mOK A) (f : FGs K.own idx 5 4) (hd : decode K.cc pc = .ok (.getfield idx, 3)) (w : Wk l g X K P E n k (pc + 3) L (.ref (A 4) :: st) (mW h A I R N)) : Wk l g X K P E n k pc L (.ref (A 21) :: st) (mW h A I R N) := k_g4 f hd (mW_mo hA) w
theorem m_g5 {idx : Nat} (hA : mOK A) (f : FGs K.own idx 5 5) (hd : decode K.cc pc = .ok (.getfield idx, 3)) (w : Wk l g X K P E n k (pc + 3) L (.int (I 5) :: st) (mW h A I R N)) : Wk l g X K P E n k pc L (.ref (A 21) :: st) (mW h A I R N) := k_g5 f hd (mW_mo hA) w
theorem m_p5 {idx : Nat} {v : Int32} (hA : mOK A) (f : FPs K.own K.nm idx 5 5 .int) (hd : decode K.cc pc = .ok (.putfield idx, 3)) (w : Wk l g X K P E n k (pc + 3) L (st) (mW h A (uI I 5 v) R N)) : Wk l g X K P E n k pc L (.int v :: .ref (A 21) :: st) (mW h A I R N) := k_p5 f hd (mW_mo hA) rfl rfl (Wk.heap (mW_pi hA (by simp [uI])).symm w)
theorem m_g6 {idx : Nat} (hA : mOK A) (f : FGs K.own idx 5 6) (hd : decode K.cc pc = .ok (.getfield idx, 3)) (w : Wk l g X K P E n k (pc + 3) L (.int (I 6) :: st) (mW h A I R N)) : Wk l g X K P E n k pc L (.ref (A 21) :: st) (mW h A I R N) := k_g6 f hd (mW_mo hA) w
theorem m_p6 {idx : Nat} {v : Int32} (hA : mOK A) (f : FPs K.own K.nm idx 5 6 .int) (hd : decode K.cc pc = .ok (.putfield idx, 3)) (w : Wk l g X K P E n k (pc + 3) L (st) (mW h A (uI I 6 v) R N)) : Wk l g X K P E n k pc L (.int v :: .ref (A 21) :: st) (mW h A I R N) := k_p6 f hd (mW_mo hA) rfl rfl (Wk.heap (mW_pi hA (by simp [uI])).symm w)
theorem m_g7 {idx : Nat} (hA : mOK A) (f : FGs K.own idx 5 7) (hd : decode K.cc pc = .ok (.getfield idx, 3)) (w : Wk l g X K P E n k (pc + 3) L (.int (I 7) :: st) (mW h A I R N)) : Wk l g X K P E n k pc L (.ref (A 21) :: st) (mW h A I R N) := k_g7 f hd (mW_mo hA) w
theorem m_p7 {idx : Nat} {v : Int32} (hA : mOK A) (f : FPs K.own K.nm idx 5 7 .int) (hd : decode K.cc pc = .ok (.putfield idx, 3)) (w : Wk l g X K P E n k (pc + 3) L (st) (mW h A (uI I 7 v) R N)) : Wk l g X K P E n k pc L (.int v :: .ref (A 21) :: st) (mW h A I R N) := k_p7 f hd (mW_mo hA) rfl rfl (Wk.heap (mW_pi hA (by simp [uI])).symm w)
theorem m_g8 {idx : Nat} (hA : mOK A) (f : FGs K.own idx 5 8) (hd : decode K.cc pc = .ok (.getfield idx, 3)) (w : Wk l g X K P E n k (pc + 3) L (.int (I 8) :: st) (mW h A I R N)) : Wk l g X K P E n k pc L (.ref (A 21) :: st) (mW h A I R N) := k_g8 f hd (mW_mo hA) w
theorem m_p8 {idx : Nat} {v : Int32} (hA : mOK A) (f : FPs K.own K.nm idx 5 8 .int) (hd : decode K.cc pc = .ok (.putfield idx, 3)) (w : Wk l g X K P E n k (pc + 3) L (st) (mW h A (uI I 8 v) R N)) : Wk l g X K P E n k pc L (.int v :: .ref (A 21) :: st) (mW h A I R N) := k_p8 f hd (mW_mo hA) rfl rfl (Wk.heap (mW_pi hA (by simp [uI])).symm w)
theorem m_g9 {idx : Nat} (hA : mOK A) (f : FGs K.own idx 5 9) (hd : decode K.cc pc = .ok (.getfield idx, 3)) (w : Wk l g X K P E n k (pc + 3) L (.int (I 9) :: st) (mW h A I R N)) : Wk l g X K P E n k pc L (.ref (A 21) :: st) (mW h A I R N) := k_g9 f hd (mW_mo hA) w
theorem m_p9 {idx : Nat} {v : Int32} (hA : mOK A) (f : FPs K.own K.nm idx 5 9 .int) (hd : decode K.cc pc = .ok (.putfield idx, 3)) (w : Wk l g X K P E n k (pc + 3) L (st) (mW h A (uI I 9 v) R N)) : Wk l g X K P E n k pc L (.int v :: .ref (A 21) :: st) (mW h A I R N) := k_p9 f hd (mW_mo hA) rfl rfl (Wk.heap (mW_pi hA (by simp [uI])).symm w)
theorem m_g10 {idx : Nat} (hA : mOK A) (f : FGs K.own idx 5 10) (hd : decode K.cc pc = .ok (.getfield idx, 3)) (w : Wk l g X K P E n k (pc + 3) L (.int (I 10) :: st) (mW h A I R N)) : Wk l g X K P E n k pc L (.ref (A 21) :: st) (mW h A I R N) := k_g10 f hd (mW_mo hA) w
theorem m_p10 {idx : Nat} {v : Int32} (hA : mOK A) (f : FPs K.own K.nm idx 5 10 .int) (hd : decode K.cc pc = .ok (.putfield idx, 3)) (w : Wk l g X K P E n k (pc + 3) L (st) (mW h A (uI I 10 v) R N)) : Wk l g X K P E n k pc L (.int v :: .ref (A 21) :: st) (mW h A I R N) := k_p10 f hd (mW_mo hA) rfl rfl (Wk.heap (mW_pi hA (by simp [uI])).symm w)
theorem m_g11 {idx : Nat} (hA : mOK A) (f : FGs K.own idx 5 11) (hd : decode K.cc pc = .ok (.getfield idx, 3)) (w : Wk l g X K P E n k (pc + 3) L (.int (I 11) :: st) (mW h A I R N)) : Wk l g X K P E n k pc L (.ref (A 21) :: st) (mW h A I R N) := k_g11 f hd (mW_mo hA) w
theorem m_p11 {idx : Nat} {v : Int32} (hA : mOK A) (f : FPs K.own K.nm idx 5 11 .boolean) (hd : decode K.cc pc = .ok (.putfield idx, 3)) (hb : v = 0 ∨ v = 1) (w : Wk l g X K P E n k (pc + 3) L (st) (mW h A (uI I 11 v) R N)) : Wk l g X K P E n k pc L (.int v :: .ref (A 21) :: st) (mW h A I R N) := k_p11 f hd (mW_mo hA) (by rcases hb with rfl | rfl <;> rfl) (by rcases hb with rfl | rfl <;> rfl) (Wk.heap (mW_pi hA (by simp [uI])).symm w)
theorem m_g12 {idx : Nat} (hA : mOK A) (f : FGs K.own idx 5 12) (hd : decode K.cc pc = .ok (.getfield idx, 3)) (w : Wk l g X K P E n k (pc + 3) L (.ref (A 12) :: st) (mW h A I R N)) : Wk l g X K P E n k pc L (.ref (A 21) :: st) (mW h A I R N) := k_g12 f hd (mW_mo hA) w
theorem m_g13 {idx : Nat} (hA : mOK A) (f : FGs K.own idx 5 13) (hd : decode K.cc pc = .ok (.getfield idx, 3)) (w : Wk l g X K P E n k (pc + 3) L (.ref (A 13) :: st) (mW h A I R N)) : Wk l g X K P E n k pc L (.ref (A 21) :: st) (mW h A I R N) := k_g13 f hd (mW_mo hA) w
theorem m_g14 {idx : Nat} (hA : mOK A) (f : FGs K.own idx 5 14) (hd : decode K.cc pc = .ok (.getfield idx, 3)) (w : Wk l g X K P E n k (pc + 3) L (.ref (A 14) :: st) (mW h A I R N)) : Wk l g X K P E n k pc L (.ref (A 21) :: st) (mW h A I R N) := k_g14 f hd (mW_mo hA) w
theorem m_g15 {idx : Nat} (hA : mOK A) (f : FGs K.own idx 5 15) (hd : decode K.cc pc = .ok (.getfield idx, 3)) (w : Wk l g X K P E n k (pc + 3) L (.ref (A 15) :: st) (mW h A I R N)) : Wk l g X K P E n k pc L (.ref (A 21) :: st) (mW h A I R N) := k_g15 f hd (mW_mo hA) w
theorem m_g16 {idx : Nat} (hA : mOK A) (f : FGs K.own idx 5 16) (hd : decode K.cc pc = .ok (.getfield idx, 3)) (w : Wk l g X K P E n k (pc + 3) L (.int (I 16) :: st) (mW h A I R N)) : Wk l g X K P E n k pc L (.ref (A 21) :: st) (mW h A I R N) := k_g16 f hd (mW_mo hA) w
theorem m_p16 {idx : Nat} {v : Int32} (hA : mOK A) (f : FPs K.own K.nm idx 5 16 .int) (hd : decode K.cc pc = .ok (.putfield idx, 3)) (w : Wk l g X K P E n k (pc + 3) L (st) (mW h A (uI I 16 v) R N)) : Wk l g X K P E n k pc L (.int v :: .ref (A 21) :: st) (mW h A I R N) := k_p16 f hd (mW_mo hA) rfl rfl (Wk.heap (mW_pi hA (by simp [uI])).symm w)
theorem m_g17 {idx : Nat} (hA : mOK A) (f : FGs K.own idx 5 17) (hd : decode K.cc pc = .ok (.getfield idx, 3)) (w : Wk l g X K P E n k (pc + 3) L (.int (I 17) :: st) (mW h A I R N)) : Wk l g X K P E n k pc L (.ref (A 21) :: st) (mW h A I R N) := k_g17 f hd (mW_mo hA) w
theorem m_p17 {idx : Nat} {v : Int32} (hA : mOK A) (f : FPs K.own K.nm idx 5 17 .int) (hd : decode K.cc pc = .ok (.putfield idx, 3)) (w : Wk l g X K P E n k (pc + 3) L (st) (mW h A (uI I 17 v) R N)) : Wk l g X K P E n k pc L (.int v :: .ref (A 21) :: st) (mW h A I R N) := k_p17 f hd (mW_mo hA) rfl rfl (Wk.heap (mW_pi hA (by simp [uI])).symm w)
theorem m_g18 {idx : Nat} (hA : mOK A) (f : FGs K.own idx 5 18) (hd : decode K.cc pc = .ok (.getfield idx, 3)) (w : Wk l g X K P E n k (pc + 3) L (.int (I 18) :: st) (mW h A I R N)) : Wk l g X K P E n k pc L (.ref (A 21) :: st) (mW h A I R N) := k_g18 f hd (mW_mo hA) w
theorem m_p18 {idx : Nat} {v : Int32} (hA : mOK A) (f : FPs K.own K.nm idx 5 18 .int) (hd : decode K.cc pc = .ok (.putfield idx, 3)) (w : Wk l g X K P E n k (pc + 3) L (st) (mW h A (uI I 18 v) R N)) : Wk l g X K P E n k pc L (.int v :: .ref (A 21) :: st) (mW h A I R N) := k_p18 f hd (mW_mo hA) rfl rfl (Wk.heap (mW_pi hA (by simp [uI])).symm w)
theorem m_g19 {idx : Nat} (hA : mOK A) (f : FGs K.own idx 5 19) (hd : decode K.cc pc = .ok (.getfield idx, 3)) (w : Wk l g X K P E n k (pc + 3) L (.int (I 19) :: st) (mW h A I R N)) : Wk l g X K P E n k pc L (.ref (A 21) :: st) (mW h A I R N) := k_g19 f hd (mW_mo hA) w
theorem m_p19 {idx : Nat} {v : Int32} (hA : mOK A) (f : FPs K.own K.nm idx 5 19 .int) (hd : decode K.cc pc = .ok (.putfield idx, 3)) (w : Wk l g X K P E n k (pc + 3) L (st) (mW h A (uI I 19 v) R N)) : Wk l g X K P E n k pc L (.int v :: .ref (A 21) :: st) (mW h A I R N) := k_p19 f hd (mW_mo hA) rfl rfl (Wk.heap (mW_pi hA (by simp [uI])).symm w)
theorem m_g20 {idx : Nat} (hA : mOK A) (f : FGs K.own idx 5 20) (hd : decode K.cc pc = .ok (.getfield idx, 3)) (w : Wk l g X K P E n k (pc + 3) L (.int (I 20) :: st) (mW h A I R N)) : Wk l g X K P E n k pc L (.ref (A 21) :: st) (mW h A I R N) := k_g20 f hd (mW_mo hA) w
theorem m_p20 {idx : Nat} {v : Int32} (hA : mOK A) (f : FPs K.own K.nm idx 5 20 .boolean) (hd : decode K.cc pc = .ok (.putfield idx, 3)) (hb : v = 0 ∨ v = 1) (w : Wk l g X K P E n k (pc + 3) L (st) (mW h A (uI I 20 v) R N)) : Wk l g X K P E n k pc L (.int v :: .ref (A 21) :: st) (mW h A I R N) := k_p20 f hd (mW_mo hA) (by rcases hb with rfl | rfl <;> rfl) (by rcases hb with rfl | rfl <;> rfl) (Wk.heap (mW_pi hA (by simp [uI])).symm w)
end MROWS
