/-! THE MODEL: contracts of its methods, 13 (printed by tools/mk_model13.py) -/
set_option maxRecDepth 100000
theorem fpX6_60_5 {nm : String} : FPs "TissueBalloonsModel" nm 60 5 16 .int := ⟨RX6, TX6, 21, RX6, tyX6, rfl, by decide, in_X6, tyX6_ok, nmX6, Or.inl rfl, tyX6_ok 16 (by decide), Or.inl ⟨q3109, rfl⟩⟩
theorem cvX6_233_5 : CVs "TissueBalloonsModel" 233 5 yX6_order kX6_order 0 := ⟨⟨TX6, 21, rfl⟩, q3433, q3435, qs68, q100, q3436, ⟨by decide, by decide⟩, rfl⟩
/-- the orders l stand in the rows -/
def mHas (N : Nat → Nat → Int32) (l : List Od) : Prop := ∀ j, j < l.length → (N 13 j, N 14 j, N 15 j) = l.getD j (0, 0, 0)
theorem mHas.nil {N : Nat → Nat → Int32} : mHas N [] := fun _ h => absurd h (Nat.not_lt_zero _)
theorem mHas.snoc {N N' : Nat → Nat → Int32} {l : List Od} {k : Nat} {o : Od} (h : mHas N l) (hl : l.length = k) (ho : mOrd k N N') (h13 : N' 13 k = o.1) (h14 : N' 14 k = o.2.1) (h15 : N' 15 k = o.2.2) : mHas N' (l ++ [o]) := by
  intro j hj
  rw [List.length_append, List.length_singleton] at hj
  by_cases e : j = k
  · subst e
    rw [h13, h14, h15, List.getD_eq_getElem?_getD, List.getElem?_append_right (by omega), hl, Nat.sub_self]
    rfl
  · obtain ⟨a, b, c⟩ := ho.2 j e
    rw [a, b, c, List.getD_eq_getElem?_getD, List.getElem?_append_left (by omega), ← List.getD_eq_getElem?_getD]
    exact h j (by omega)
theorem pS_18 {I : Nat → Int32} {p k : Nat} {w : Bool} {a : Int32} : uI (pS (uI I 18 a) p w) 18 (nI k) = pS (uI I 18 (nI k)) p w := by
  funext j
  simp only [uI]
  by_cases e1 : j = 18
  · subst e1; simp
  · simp [e1]
/-- what reading leaves -/
def mRd (s : Bool × List Od × Nat) (h : hp) (A : Nat → Nat) (I R : Nat → Int32) (N : Nat → Nat → Int32) (h' : hp) : Prop := ∃ I' N', (∀ m, m ≠ 13 → m ≠ 14 → m ≠ 15 → N' m = N m) ∧ I' 17 = nI s.2.2 ∧ I' 20 = bI (!s.1) ∧ I' 16 = 0 ∧ (∀ m, m ≠ 16 → m ≠ 17 → m ≠ 18 → m ≠ 20 → I' m = I m) ∧ (s.1 = true → I' 18 = nI s.2.1.length ∧ mHas N' s.2.1) ∧ h' = mW h A I' R N'
theorem pS_start {I : Nat → Int32} : uI (uI (uI I 17 0) 18 0) 20 0 = pS (uI I 18 (nI 0)) 0 false := by
  funext j
  simp only [uI]
  by_cases e1 : j = 20
  · rw [if_pos e1, if_pos e1]; rfl
  · rw [if_neg e1, if_neg e1]
    by_cases e2 : j = 18
    · subst e2; rfl
    · rw [if_neg e2, if_neg e2]
      rfl
theorem p_seq_bad {T : Nat → Int32} {n f p : Nat} (h : (p_ord T n p).1 = false) : p_seq T n (f + 1) p = (false, [], (p_ord T n p).2.2) := by simp only [p_seq]; rw [if_neg (by rw [h]; decide)]
theorem p_seq_more {T : Nat → Int32} {n f p : Nat} (h : (p_ord T n p).1 = true) (h2 : p_nx T n (p_ord T n p).2.2 = 59) : p_seq T n (f + 1) p = ((p_seq T n f ((p_ord T n p).2.2 + 1)).1, (p_ord T n p).2.1 :: (p_seq T n f ((p_ord T n p).2.2 + 1)).2.1, (p_seq T n f ((p_ord T n p).2.2 + 1)).2.2) := by simp only [p_seq]; rw [if_pos h, if_pos h2]
theorem p_seq_end {T : Nat → Int32} {n f p : Nat} (h : (p_ord T n p).1 = true) (h2 : ¬ p_nx T n (p_ord T n p).2.2 = 59) : p_seq T n (f + 1) p = (decide (n ≤ (p_ord T n p).2.2), [(p_ord T n p).2.1], (p_ord T n p).2.2) := by simp only [p_seq]; rw [if_pos h, if_neg h2]
theorem mc_X6_reads {l : Launch} (ht : l.stackTraces = false) {g : gT} {h : hp} {A : Nat → Nat} (hA : mOK A) {I R : Nat → Int32} {N : Nat → Nat → Int32} {T : Nat → Int32} (hT : N 12 = T) {n : Nat} (hf : I 16 = nI n) (hn : n ≤ 60) : MM l g yX6_reads kX6_reads [.ref (A 21)] (mW h A (I) R N) (pV fun h' => mRd (p_seq T n 21 0) h A I R N h') (noX) (0) (0) := by
  refine MM.of (by decide) rfl rfl rfl (List.forall_mem_cons.mpr ⟨rfl, fun _ h => absurd h List.not_mem_nil⟩) (Nat.le_of_ble_eq_true rfl) ht fun X => ?_
  show Wk _ _ _ _ _ _ _ _ _ [some (.ref (A 21))] _ _
  refine Wk.gen fun PP hPP => ?_
  have main : ∀ f p k (l0 : List Od) (N2 : Nat → Nat → Int32), (∀ m, m ≠ 13 → m ≠ 14 → m ≠ 15 → N2 m = N m) → p ≤ n → n < 3 * (f + 1) + p → 3 * k ≤ p → l0.length = k → p_seq T n 21 0 = ((p_seq T n (f + 1) p).1, l0 ++ (p_seq T n (f + 1) p).2.1, (p_seq T n (f + 1) p).2.2) → ((p_ord T n p).1 = true → mHas N2 (l0 ++ [(p_ord T n p).2.1]) → Wk l g X kX6_reads PP noX 0 0 19 [some (.ref (A 21))] [] (mW h A (pS (uI I 18 (nI (k + 1))) (p_ord T n p).2.2 false) R N2)) ∧ ((p_ord T n p).1 = false → Wk l g X kX6_reads PP noX 0 0 19 [some (.ref (A 21))] [] (mW h A (pS (uI I 18 (nI k)) (p_ord T n p).2.2 true) R N2)) := by
    intro f
    induction f using Nat.strongRecOn with
    | ind f ihs =>
      intro p k l0 N2 hN2 hp hfu hk3 hl hseq
      have hle := p_ord_le (T := T) hp
      refine ⟨fun hr hH => ?_, fun hr => ?_⟩
      · skip
        refine k_al0 dX6_reads_19 ?_
        refine k_cVI0 cvX6_219_5 dX6_reads_20 (mc_X6_next ht hA (I := uI I 18 (nI (k + 1))) (T := T) (by rw [hN2 12 (by decide) (by decide) (by decide)]; exact hT) (p := (p_ord T n p).2.2) (n := n) (w := false) (by rw [uI_n (by decide)]; exact hf) hn hle.2.1) (mW_mo hA) (Nat.le_of_eq (Nat.zero_add _)) (Nat.le_of_eq (Nat.zero_add _)) (fun r_20 h_20 e_20 => ?_)
        obtain ⟨rfl, rfl⟩ := e_20
        rw [w_nx_f]
        refine k_bipush (v := 59) dX6_reads_23 rfl ?_
        refine k_icmp_ne (tgt := 45) dX6_reads_25 (by decide) (fun c_25 => ?_) (fun c_25 => ?_)
        · have hs := hseq
          rw [p_seq_end hr c_25] at hs
          simp only at hs
          have hlen : (l0 ++ [(p_ord T n p).2.1]).length = k + 1 := by rw [List.length_append, List.length_singleton, hl]
          refine k_al0 dX6_reads_45 ?_
          refine k_dup dX6_reads_46 ?_
          refine m_g20 hA fgX6_72_5 dX6_reads_47 ?_
          rw [pS_20]
          refine Wk.top (v' := .int 0) rfl ?_
          refine k_al0 dX6_reads_50 ?_
          refine m_g17 hA fgX6_63_5 dX6_reads_51 ?_
          rw [pS_17]
          refine k_al0 dX6_reads_54 ?_
          refine m_g16 hA fgX6_60_5 dX6_reads_55 ?_
          rw [pS_n (by decide) (by decide), uI_n (by decide), hf]
          refine k_icmp_ge (tgt := 65) dX6_reads_58 (by decide) (fun c_58 => ?_) (fun c_58 => ?_)
          · refine k_iconst (v := 0) dX6_reads_65 rfl ?_
            refine k_ior dX6_reads_66 ?_
            refine Wk.top (v' := .int 0) (congrArg Value.int (by decide)) ?_
            refine m_p20 hA fpX6_72_5 dX6_reads_67 (by decide) ?_
            refine k_al0 dX6_reads_70 ?_
            refine k_iconst (v := 0) dX6_reads_71 rfl ?_
            refine m_p16 hA fpX6_60_5 dX6_reads_72 ?_
            exact k_vret dX6_reads_75 rfl (by rw [hPP, hs, decide_eq_true ((nI_leI (by omega) (by omega)).mp c_58)]; refine ⟨rfl, _, N2, hN2, ?_, ?_, ?_, ?_, ?_, rfl⟩; (simp [uI]); (simp [uI, bI]); (simp [uI]); (intro m h16 h17 h18 h20; simp [uI, h16, h17, h18, h20]); (intro _; exact ⟨by simp [uI, hlen], hH⟩))
          · refine k_iconst (v := 1) dX6_reads_61 rfl ?_
            refine k_goto (tgt := 66) dX6_reads_62 (by decide) ?_
            refine k_ior dX6_reads_66 ?_
            refine Wk.top (v' := .int 1) (congrArg Value.int (by decide)) ?_
            refine m_p20 hA fpX6_72_5 dX6_reads_67 (by decide) ?_
            refine k_al0 dX6_reads_70 ?_
            refine k_iconst (v := 0) dX6_reads_71 rfl ?_
            refine m_p16 hA fpX6_60_5 dX6_reads_72 ?_
            exact k_vret dX6_reads_75 rfl (by rw [hPP, hs, decide_eq_false (fun e => c_58 (nI_le e (by omega)))]; refine ⟨rfl, _, N2, hN2, ?_, ?_, ?_, ?_, ?_, rfl⟩; (simp [uI]); (simp [uI, bI]); (simp [uI]); (intro m h16 h17 h18 h20; simp [uI, h16, h17, h18, h20]); (intro e; exact (Bool.false_ne_true e).elim))
        · have hc59 : p_nx T n (p_ord T n p).2.2 = 59 := by simpa using c_25
          have hq1 : (p_ord T n p).2.2 + 1 ≤ n := p_nx_lt (by rw [hc59]; decide)
          have hge := hle.2.2 hr
          cases f with
          | zero => exact absurd hfu (by omega)
          | succ f =>
            have hs2 := hseq
            rw [p_seq_more hr hc59] at hs2
            simp only at hs2
            rw [← List.singleton_append, ← List.append_assoc] at hs2
            refine k_al0 dX6_reads_28 ?_
            refine k_dup dX6_reads_29 ?_
            refine m_g17 hA fgX6_63_5 dX6_reads_30 ?_
            rw [pS_17]
            refine k_iconst (v := 1) dX6_reads_33 rfl ?_
            refine k_iadd dX6_reads_34 ?_
            refine m_p17 hA fpX6_63_5 dX6_reads_35 ?_
            rw [nI_1, pS_p]
            refine k_al0 dX6_reads_38 ?_
            refine k_cVV0 cvX6_233_5 dX6_reads_39 (mc_X6_order ht hA (I := uI I 18 (nI (k + 1))) (T := T) (by rw [hN2 12 (by decide) (by decide) (by decide)]; exact hT) (p := (p_ord T n p).2.2 + 1) (n := n) (by rw [uI_n (by decide)]; exact hf) hn hq1 (k := k + 1) (by simp [uI]) (by omega)) (mW_mo hA) (Nat.le_of_eq (Nat.zero_add _)) (Nat.le_of_eq (Nat.zero_add _)) (fun h_39 e_39 => ?_)
            refine k_goto (tgt := 19) dX6_reads_42 (by decide) ?_
            obtain ⟨N3, hO3, hx⟩ := e_39
            have hN3 : ∀ m, m ≠ 13 → m ≠ 14 → m ≠ 15 → N3 m = N m := fun m h1 h2 h3 => (hO3.1 m h1 h2 h3).trans (hN2 m h1 h2 h3)
            rcases hx with ⟨g1, g2, g3, g4, rfl⟩ | ⟨g1, rfl⟩
            · rw [pS_18]
              exact (ihs f (by omega) ((p_ord T n p).2.2 + 1) (k + 1) (l0 ++ [(p_ord T n p).2.1]) N3 hN3 (by omega) (by omega) (by omega) (by rw [List.length_append, List.length_singleton, hl]) hs2).1 g1 (hH.snoc (by rw [List.length_append, List.length_singleton, hl]) hO3 g2 g3 g4)
            · exact (ihs f (by omega) ((p_ord T n p).2.2 + 1) (k + 1) (l0 ++ [(p_ord T n p).2.1]) N3 hN3 (by omega) (by omega) (by omega) (by rw [List.length_append, List.length_singleton, hl]) hs2).2 g1
      · skip
        refine k_al0 dX6_reads_19 ?_
        refine k_cVI0 cvX6_219_5 dX6_reads_20 (mc_X6_next ht hA (I := uI I 18 (nI k)) (T := T) (by rw [hN2 12 (by decide) (by decide) (by decide)]; exact hT) (p := (p_ord T n p).2.2) (n := n) (w := true) (by rw [uI_n (by decide)]; exact hf) hn hle.2.1) (mW_mo hA) (Nat.le_of_eq (Nat.zero_add _)) (Nat.le_of_eq (Nat.zero_add _)) (fun r_20 h_20 e_20 => ?_)
        obtain ⟨rfl, rfl⟩ := e_20
        refine k_bipush (v := 59) dX6_reads_23 rfl ?_
        refine k_icmp_ne (tgt := 45) dX6_reads_25 (by decide) (fun c_25 => ?_) (fun c_25 => absurd c_25 (show ¬ (-1 : Int32) = 59 by decide))
        have hs := hseq
        rw [p_seq_bad hr] at hs
        simp only [List.append_nil] at hs
        refine k_al0 dX6_reads_45 ?_
        refine k_dup dX6_reads_46 ?_
        refine m_g20 hA fgX6_72_5 dX6_reads_47 ?_
        rw [pS_20]
        refine Wk.top (v' := .int 1) rfl ?_
        refine k_al0 dX6_reads_50 ?_
        refine m_g17 hA fgX6_63_5 dX6_reads_51 ?_
        rw [pS_17]
        refine k_al0 dX6_reads_54 ?_
        refine m_g16 hA fgX6_60_5 dX6_reads_55 ?_
        rw [pS_n (by decide) (by decide), uI_n (by decide), hf]
        refine k_icmp_ge (tgt := 65) dX6_reads_58 (by decide) (fun c_58 => ?_) (fun c_58 => ?_)
        · refine k_iconst (v := 0) dX6_reads_65 rfl ?_
          refine k_ior dX6_reads_66 ?_
          refine Wk.top (v' := .int 1) (congrArg Value.int (by decide)) ?_
          refine m_p20 hA fpX6_72_5 dX6_reads_67 (by decide) ?_
          refine k_al0 dX6_reads_70 ?_
          refine k_iconst (v := 0) dX6_reads_71 rfl ?_
          refine m_p16 hA fpX6_60_5 dX6_reads_72 ?_
          exact k_vret dX6_reads_75 rfl (by rw [hPP, hs]; refine ⟨rfl, _, N2, hN2, ?_, ?_, ?_, ?_, fun e => (Bool.false_ne_true e).elim, rfl⟩; (simp [uI]); (simp [uI, bI]); (simp [uI]); (intro m h16 h17 h18 h20; simp [uI, h16, h17, h18, h20]))
        · refine k_iconst (v := 1) dX6_reads_61 rfl ?_
          refine k_goto (tgt := 66) dX6_reads_62 (by decide) ?_
          refine k_ior dX6_reads_66 ?_
          refine Wk.top (v' := .int 1) (congrArg Value.int (by decide)) ?_
          refine m_p20 hA fpX6_72_5 dX6_reads_67 (by decide) ?_
          refine k_al0 dX6_reads_70 ?_
          refine k_iconst (v := 0) dX6_reads_71 rfl ?_
          refine m_p16 hA fpX6_60_5 dX6_reads_72 ?_
          exact k_vret dX6_reads_75 rfl (by rw [hPP, hs]; refine ⟨rfl, _, N2, hN2, ?_, ?_, ?_, ?_, fun e => (Bool.false_ne_true e).elim, rfl⟩; (simp [uI]); (simp [uI, bI]); (simp [uI]); (intro m h16 h17 h18 h20; simp [uI, h16, h17, h18, h20]))
  refine k_al0 dX6_reads_0 ?_
  refine k_iconst (v := 0) dX6_reads_1 rfl ?_
  refine m_p17 hA fpX6_63_5 dX6_reads_2 ?_
  refine k_al0 dX6_reads_5 ?_
  refine k_iconst (v := 0) dX6_reads_6 rfl ?_
  refine m_p18 hA fpX6_66_5 dX6_reads_7 ?_
  refine k_al0 dX6_reads_10 ?_
  refine k_iconst (v := 0) dX6_reads_11 rfl ?_
  refine m_p20 hA fpX6_72_5 dX6_reads_12 (by first | exact Or.inl rfl | exact Or.inr rfl) ?_
  rw [pS_start]
  refine k_al0 dX6_reads_15 ?_
  refine k_cVV0 cvX6_233_5 dX6_reads_16 (mc_X6_order ht hA (I := uI I 18 (nI 0)) (T := T) (by exact hT) (p := 0) (n := n) (by rw [uI_n (by decide)]; exact hf) hn (Nat.zero_le _) (k := 0) (by simp [uI]) (by decide)) (mW_mo hA) (Nat.le_of_eq (Nat.zero_add _)) (Nat.le_of_eq (Nat.zero_add _)) (fun h_16 e_16 => ?_)
  obtain ⟨N3, hO3, hx⟩ := e_16
  rcases hx with ⟨g1, g2, g3, g4, rfl⟩ | ⟨g1, rfl⟩
  · rw [pS_18]
    exact (main 20 0 0 [] N3 hO3.1 (Nat.zero_le _) (by omega) (Nat.le_refl _) rfl rfl).1 g1 (mHas.nil.snoc rfl hO3 g2 g3 g4)
  · exact (main 20 0 0 [] N3 hO3.1 (Nat.zero_le _) (by omega) (Nat.le_refl _) rfl rfl).2 g1
