/-! THE MODEL: contracts of its methods, 16 (printed by tools/mk_model16.py) -/
set_option maxRecDepth 100000
theorem fpX6_69_5 {nm : String} : FPs "TissueBalloonsModel" nm 69 5 19 .int := ⟨RX6, TX6, 21, RX6, tyX6, rfl, by decide, in_X6, tyX6_ok, nmX6, Or.inl rfl, tyX6_ok 19 (by decide), Or.inl ⟨q3112, rfl⟩⟩
theorem cvX6_236_5 : CVs "TissueBalloonsModel" 236 5 yX6_reads kX6_reads 0 := ⟨⟨TX6, 21, rfl⟩, q3429, q3431, qs67, q100, q3432, ⟨by decide, by decide⟩, rfl⟩
theorem cvX6_239_5 : CVs "TissueBalloonsModel" 239 5 yX6_does kX6_does 1 := ⟨⟨TX6, 21, rfl⟩, q3457, q3459, qs74, q100, q3460, ⟨by decide, by decide⟩, rfl⟩
theorem p_seq_len {T : Nat → Int32} {n : Nat} : ∀ f p, p ≤ n → 3 * (p_seq T n f p).2.1.length ≤ n - p + 1
  | 0, p, _ => by simp [p_seq]
  | f + 1, p, hp => by
    have hle := p_ord_le (T := T) hp
    by_cases h : (p_ord T n p).1 = true
    · have h2 := hle.2.2 h
      by_cases h3 : p_nx T n (p_ord T n p).2.2 = 59
      · rw [p_seq_more h h3]
        have hq : (p_ord T n p).2.2 + 1 ≤ n := p_nx_lt (by rw [h3]; decide)
        have ih := p_seq_len (T := T) (n := n) f _ hq
        simp only [List.length_cons]
        omega
      · rw [p_seq_end h h3]
        simp only [List.length_cons, List.length_nil]
        omega
    · rw [p_seq_bad (by simpa using h)]
      simp
theorem does_code {R : Row} {o : Od} : (s_does R o).1 = 0 ∨ ((s_does R o).1 = 1 ∧ (s_does R o).2.2 = none) ∨ ((s_does R o).1 = 2 ∧ ∃ w, (s_does R o).2.2 = some w) := by
  unfold s_does
  split
  · split
    · exact Or.inr (Or.inl ⟨rfl, rfl⟩)
    · split
      · exact Or.inr (Or.inl ⟨rfl, rfl⟩)
      · exact Or.inl rfl
  · split
    · split
      · exact Or.inr (Or.inl ⟨rfl, rfl⟩)
      · split
        · exact Or.inr (Or.inl ⟨rfl, rfl⟩)
        · split
          · exact Or.inr (Or.inr ⟨rfl, _, rfl⟩)
          · exact Or.inl rfl
    · split
      · split
        · exact Or.inr (Or.inl ⟨rfl, rfl⟩)
        · split
          · exact Or.inr (Or.inl ⟨rfl, rfl⟩)
          · split
            · exact Or.inr (Or.inr ⟨rfl, _, rfl⟩)
            · exact Or.inl rfl
      · split
        · split
          · exact Or.inr (Or.inl ⟨rfl, rfl⟩)
          · exact Or.inl rfl
        · split
          · exact Or.inr (Or.inl ⟨rfl, rfl⟩)
          · exact Or.inl rfl
/-- what reading answers -/
def mReadP (q : Oc × Int32) (h : hp) (A : Nat → Nat) (I R : Nat → Int32) (N : Nat → Nat → Int32) (v : Int32) (h' : hp) : Prop := v = q.1.2.1 ∧ ∃ (I' R' : Nat → Int32) (N' : Nat → Nat → Int32), (∀ j, j < 222 → R' j = q.1.2.2.1 j) ∧ I' 5 = q.1.1 ∧ I' 16 = 0 ∧ I' 19 = q.2 ∧ (∀ k, k ≠ 5 → k ≠ 6 → k ≠ 7 → k ≠ 8 → k ≠ 9 → k ≠ 10 → k ≠ 16 → k ≠ 17 → k ≠ 18 → k ≠ 19 → k ≠ 20 → I' k = I k) ∧ (∀ k, k ≠ 1 → k ≠ 4 → k ≠ 13 → k ≠ 14 → k ≠ 15 → N' k = N k) ∧ (match q.1.2.2.2 with | some w => I' 9 = w.1 ∧ I' 10 = w.2 | none => I' 9 = I 9 ∧ I' 10 = I 10) ∧ (if q.1.1 = 0 then mPu I N R I' N' else I' 6 = I 6 ∧ N' 4 = N 4) ∧ h' = mW h A I' R' N'
theorem o_read_bad {T : Nat → Int32} {n : Nat} {R : Row} (h : (p_seq T n 21 0).1 = false) : o_read T n R = (oNo 1 R, nI (p_seq T n 21 0).2.2) := by unfold o_read; rw [if_neg (by rw [h]; decide)]
theorem o_read_ok {T : Nat → Int32} {n : Nat} {R : Row} (h : (p_seq T n 21 0).1 = true) (h2 : (s_run (p_seq T n 21 0).2.1 R).1 = 0) : o_read T n R = (oOk (nI (p_seq T n 21 0).2.1.length) (s_run (p_seq T n 21 0).2.1 R).2.1, -1) := by unfold o_read; rw [if_pos h, if_pos h2]
theorem o_read_no {T : Nat → Int32} {n : Nat} {R : Row} (h : (p_seq T n 21 0).1 = true) (h2 : ¬ (s_run (p_seq T n 21 0).2.1 R).1 = 0) (h3 : (s_run (p_seq T n 21 0).2.1 R).2.2 = none) : o_read T n R = (oNo 1 R, -1) := by unfold o_read; rw [if_pos h, if_neg h2, h3]
theorem o_read_rf {T : Nat → Int32} {n : Nat} {R : Row} {w : Int32 × Int32} (h : (p_seq T n 21 0).1 = true) (h2 : ¬ (s_run (p_seq T n 21 0).2.1 R).1 = 0) (h3 : (s_run (p_seq T n 21 0).2.1 R).2.2 = some w) : o_read T n R = (oRf 2 w.1 w.2 R, -1) := by unfold o_read; rw [if_pos h, if_neg h2, h3]
theorem mPu_of {I I4 I' : Nat → Int32} {N N2 N' : Nat → Nat → Int32} {B R : Row} (h : mKp I4 N2 B I' N') (h6 : I4 6 = I 6) (h4 : N2 4 = N 4) (hB : ∀ j, j < 222 → B j = R j) : mPu I N R I' N' ∧ (∀ k, k ≠ 6 → I' k = I4 k) ∧ ∀ k, k ≠ 4 → N' k = N2 k := by
  obtain ⟨c, c', F, e6, rfl, rfl, hs, hl⟩ := h
  refine ⟨⟨c, c', by rw [← h6]; exact e6, by simp [uI], ?_, fun j hj => by rw [uA_at]; exact (hl j hj).trans (hB j hj)⟩, fun k hk => by simp [uI, hk], fun k hk => uA_ne hk⟩
  rw [uA_at]
  rw [h4] at hs
  exact hs
theorem s_run_s {l : List Od} {o : Od} {R : Row} (h : (s_does R o).1 = 0) : s_run (o :: l) R = s_run l (s_does R o).2.1 := by simp only [s_run]; rw [if_pos h]
theorem s_run_e {l : List Od} {o : Od} {R : Row} (h : ¬ (s_does R o).1 = 0) : s_run (o :: l) R = s_does R o := by simp only [s_run]; rw [if_neg h]
theorem bad_back {R R' F : Row} {j : Nat} (h : j < 222) : va_cpy (va_cpy R F 0 0 222) R' 0 0 222 j = R j := cpy_back h
theorem mc_X6_read {l : Launch} (ht : l.stackTraces = false) {g : gT} {h : hp} {A : Nat → Nat} (hA : mOK A) {I R : Nat → Int32} {N : Nat → Nat → Int32} (hR : RI R) {T : Nat → Int32} (hT : N 12 = T) {n : Nat} (hf : I 16 = nI n) (hn : n ≤ 60) {cc : Nat} (hc : I 6 = nI cc) (hc8 : cc ≤ 8) : MM l g yX6_read kX6_read [.ref (A 21)] (mW h A I R N) (pI fun v_ h' => mReadP (o_read T n R) h A I R N v_ h') (noX) (0) (0) := by
  refine MM.of (by decide) rfl rfl rfl (List.forall_mem_cons.mpr ⟨rfl, fun _ h => absurd h List.not_mem_nil⟩) (Nat.le_of_ble_eq_true rfl) ht fun X => ?_
  show Wk _ _ _ _ _ _ _ _ _ [some (.ref (A 21)), none, none] _ _
  refine Wk.gen fun PP hPP => ?_
  have loop : (p_seq T n 21 0).1 = true → ∀ (I2 : Nat → Int32) (N2 : Nat → Nat → Int32), I2 16 = 0 → (∀ m, m ≠ 16 → m ≠ 17 → m ≠ 18 → m ≠ 20 → I2 m = uI I 5 0 m) → I2 18 = nI (p_seq T n 21 0).2.1.length → mHas N2 (p_seq T n 21 0).2.1 → (∀ k, k ≠ 1 → k ≠ 13 → k ≠ 14 → k ≠ 15 → N2 k = N k) → N2 1 = va_cpy R (N 1) 0 0 222 → ∀ d k, k + d = (p_seq T n 21 0).2.1.length → ∀ (I4 R1 : Nat → Int32) (u : Option Value), mW78 (uI I2 19 (-1)) I4 → RI R1 → s_run (p_seq T n 21 0).2.1 R = s_run ((p_seq T n 21 0).2.1.drop k) R1 → Wk l g X kX6_read PP noX 0 0 42 [some (.ref (A 21)), some (.int (nI k)), u] [] (mW h A I4 R1 N2) := by
    intro hs I2 N2 h16 hI2 h18 hH hN hB1 d
    have hlen := p_seq_len (T := T) (n := n) 21 0 (Nat.zero_le _)
    induction d with
    | zero =>
      intro k hkd I4 R1 u hI4 hR1 hrun
      have hk0 : (p_seq T n 21 0).2.1.drop k = [] := List.drop_eq_nil_of_le (by omega)
      refine k_il1 dX6_read_42 ?_
      refine k_al0 dX6_read_43 ?_
      refine m_g18 hA fgX6_66_5 dX6_read_44 ?_
      rw [hI4 18 (by decide) (by decide), uI_n (by decide), h18]
      refine k_icmp_ge (tgt := 101) dX6_read_47 (by decide) (fun c_47 => ?_) (fun c_47 => absurd ((show nI (p_seq T n 21 0).2.1.length ≤ nI k by rw [show k = (p_seq T n 21 0).2.1.length by omega]; exact Int32.le_refl _)) c_47)
      refine k_al0 dX6_read_101 ?_
      refine k_al0 dX6_read_102 ?_
      refine m_g18 hA fgX6_66_5 dX6_read_103 ?_
      rw [hI4 18 (by decide) (by decide), uI_n (by decide), h18]
      refine k_cVI1 cvX6_101_5 dX6_read_106 (mc_X6_keeps ht hA _ (c := cc) (by rw [hI4 6 (by decide) (by decide), uI_n (by decide), hI2 6 (by decide) (by decide) (by decide) (by decide), uI_n (by decide)]; exact hc) hc8) (mW_mo hA) (Nat.le_of_eq (Nat.zero_add _)) (Nat.le_of_eq (Nat.zero_add _)) (fun r_106 h_106 e_106 => ?_)
      exact k_iret dX6_read_109 rfl rfl (by obtain ⟨rfl, I', N', hk, rfl⟩ := e_106; (have hz := mPu_of (I := I) (N := N) (R := R) hk (by rw [hI4 6 (by decide) (by decide), uI_n (by decide), hI2 6 (by decide) (by decide) (by decide) (by decide), uI_n (by decide)]) (hN 4 (by decide) (by decide) (by decide) (by decide)) (fun j hj => by rw [hB1]; simp only [va_cpy]; rw [if_pos (by omega)]; congr 1; omega)); rw [hPP, o_read_ok hs (by rw [hrun, hk0]; rfl)]; exact ⟨_, rfl, rfl, I', R1, N', (fun j _ => by show R1 j = (s_run _ R).2.1 j; rw [hrun, hk0]; rfl), (by rw [hz.2.1 5 (by decide), hI4 5 (by decide) (by decide), uI_n (by decide), hI2 5 (by decide) (by decide) (by decide) (by decide)]; simp [uI, oOk]), (by rw [hz.2.1 16 (by decide), hI4 16 (by decide) (by decide), uI_n (by decide), h16]), (by rw [hz.2.1 19 (by decide), hI4 19 (by decide) (by decide), uI_s]), (fun k a5 a6 a7 a8 a9 a10 a16 a17 a18 a19 a20 => by rw [hz.2.1 k a6, hI4 k a7 a8, uI_n a19, hI2 k a16 a17 a18 a20, uI_n a5]), (fun k a1 a4 a13 a14 a15 => (hz.2.2 k a4).trans (hN k a1 a13 a14 a15)), ⟨by rw [hz.2.1 9 (by decide), hI4 9 (by decide) (by decide), uI_n (by decide), hI2 9 (by decide) (by decide) (by decide) (by decide), uI_n (by decide)], by rw [hz.2.1 10 (by decide), hI4 10 (by decide) (by decide), uI_n (by decide), hI2 10 (by decide) (by decide) (by decide) (by decide), uI_n (by decide)]⟩, (by rw [if_pos (show (oOk _ _).1 = (0 : Int32) from rfl)]; exact hz.1), rfl⟩)
    | succ d ih =>
      intro k hkd I4 R1 u hI4 hR1 hrun
      have hkl : k < (p_seq T n 21 0).2.1.length := by omega
      refine k_il1 dX6_read_42 ?_
      refine k_al0 dX6_read_43 ?_
      refine m_g18 hA fgX6_66_5 dX6_read_44 ?_
      rw [hI4 18 (by decide) (by decide), uI_n (by decide), h18]
      refine k_icmp_ge (tgt := 101) dX6_read_47 (by decide) (fun c_47 => absurd c_47 (nI_ge hkl (by omega))) (fun c_47 => ?_)
      refine k_al0 dX6_read_50 ?_
      refine k_il1 dX6_read_51 ?_
      obtain ⟨o, ho⟩ : ∃ o, o = (p_seq T n 21 0).2.1[k] := ⟨_, rfl⟩
      have hdr : (p_seq T n 21 0).2.1.drop k = o :: (p_seq T n 21 0).2.1.drop (k + 1) := by rw [ho]; exact List.drop_eq_getElem_cons hkl
      have hget : (N2 13 k, N2 14 k, N2 15 k) = o := by rw [hH k hkl, ho, List.getD_eq_getElem?_getD, List.getElem?_eq_getElem hkl]; rfl
      have hg1 : N2 13 k = o.1 := congrArg (fun x => x.1) hget
      have hg2 : N2 14 k = o.2.1 := congrArg (fun x => x.2.1) hget
      have hg3 : N2 15 k = o.2.2 := congrArg (fun x => x.2.2) hget
      refine k_cVI1 cvX6_239_5 dX6_read_52 (mc_X6_does ht hA hR1 (k := k) (by omega) hg1 hg2 hg3) (mW_mo hA) (Nat.le_of_eq (Nat.zero_add _)) (Nat.le_of_eq (Nat.zero_add _)) (fun r_52 h_52 e_52 => ?_)
      obtain ⟨rfl, I5, hnote, hI5, rfl⟩ := e_52
      show Wk _ _ _ _ _ _ _ _ _ _ (.int (s_does R1 o).1 :: _) (mW h A I5 (s_does R1 o).2.1 N2)
      replace hnote : mNote (s_does R1 o).2.2 I5 := hnote
      refine k_is2 dX6_read_55 (Nat.le_of_ble_eq_true rfl) ?_
      refine k_il2 dX6_read_56 ?_
      refine k_if_ne (tgt := 63) dX6_read_57 (by decide) (fun c_57 => ?_) (fun c_57 => ?_)
      · refine k_al0 dX6_read_63 ?_
        refine m_g1 hA fgX6_13_5 dX6_read_64 ?_
        refine k_iconst (v := 0) dX6_read_67 rfl ?_
        refine k_al0 dX6_read_68 ?_
        refine m_g0 hA fgX6_7_5 dX6_read_69 ?_
        refine k_iconst (v := 0) dX6_read_72 rfl ?_
        refine k_cSV4 csX6_79 dX6_read_73 (mc_X6_copies ht (s := 0) (t := 0) (mW_ot hA (k := 1) (by decide) (by decide) (by decide)) (mW_no hA) (by decide) (by decide) (by decide) (by decide) (Or.inl (fun e => absurd (hA 1 (by decide) 0 (by decide) e) (by decide)))) (Nat.le_of_eq (Nat.zero_add _)) (Nat.le_of_eq (Nat.zero_add _)) (fun h_73 e_73 => ?_)
        subst e_73
        rw [mW_pn hA]
        refine k_il2 dX6_read_76 ?_
        refine k_iconst (v := 1) dX6_read_77 rfl ?_
        refine k_icmp_ne (tgt := 89) dX6_read_78 (by decide) (fun c_78 => ?_) (fun c_78 => ?_)
        · obtain ⟨w, hwhy⟩ : ∃ w, (s_does R1 o).2.2 = some w := by
            rcases does_code (R := R1) (o := o) with e | e | e
            · exact absurd e c_57
            · exact absurd e.1 c_78
            · exact e.2
          refine k_al0 dX6_read_89 ?_
          refine k_iconst (v := 2) dX6_read_90 rfl ?_
          refine k_cVI1 cvX6_117_5 dX6_read_91 (mc_X6_refused ht hA _) (mW_mo hA) (Nat.le_of_eq (Nat.zero_add _)) (Nat.le_of_eq (Nat.zero_add _)) (fun r_91 h_91 e_91 => ?_)
          obtain ⟨rfl, rfl⟩ := e_91
          exact k_iret dX6_read_94 rfl rfl (by rw [hPP, o_read_rf hs (by rw [hrun, hdr, s_run_e c_57]; exact c_57) (by rw [hrun, hdr, s_run_e c_57]; exact hwhy)]; exact ⟨_, rfl, rfl, _, _, N2, (fun j hj => by rw [hB1]; exact bad_back hj), (by simp [uI, oRf]), (by rw [uI_n (by decide), uI_n (by decide), uI_n (by decide), hI5 16 (by decide) (by decide), hI4 16 (by decide) (by decide), uI_n (by decide), h16]), (by rw [uI_n (by decide), uI_n (by decide), uI_n (by decide), hI5 19 (by decide) (by decide), hI4 19 (by decide) (by decide), uI_s]), (fun k a5 a6 a7 a8 a9 a10 a16 a17 a18 a19 a20 => by rw [uI_n a5, uI_n a10, uI_n a9, hI5 k a7 a8, hI4 k a7 a8, uI_n a19, hI2 k a16 a17 a18 a20, uI_n a5]), (fun k a1 a4 a13 a14 a15 => hN k a1 a13 a14 a15), ⟨by rw [uI_n (by decide), uI_n (by decide), uI_s]; exact (hnote _ hwhy).1, by rw [uI_n (by decide), uI_s]; exact (hnote _ hwhy).2⟩, (by rw [if_neg (show ¬ (oRf 2 w.1 w.2 R).1 = 0 by simp [oRf])]; exact ⟨by rw [uI_n (by decide), uI_n (by decide), uI_n (by decide), hI5 6 (by decide) (by decide), hI4 6 (by decide) (by decide), uI_n (by decide), hI2 6 (by decide) (by decide) (by decide) (by decide), uI_n (by decide)], hN 4 (by decide) (by decide) (by decide) (by decide)⟩), rfl⟩)
        · have hwhy : (s_does R1 o).2.2 = none := by
            rcases does_code (R := R1) (o := o) with e | e | e
            · exact absurd e c_57
            · exact e.2
            · rw [e.1] at c_78; exact absurd c_78 (by decide)
          refine k_al0 dX6_read_81 ?_
          refine k_iconst (v := 1) dX6_read_82 rfl ?_
          refine k_cVI1 cvX6_75_5 dX6_read_83 (mc_X6_no ht hA _) (mW_mo hA) (Nat.le_of_eq (Nat.zero_add _)) (Nat.le_of_eq (Nat.zero_add _)) (fun r_83 h_83 e_83 => ?_)
          obtain ⟨rfl, rfl⟩ := e_83
          refine k_goto (tgt := 94) dX6_read_86 (by decide) ?_
          exact k_iret dX6_read_94 rfl rfl (by rw [hPP, o_read_no hs (by rw [hrun, hdr, s_run_e c_57]; exact c_57) (by rw [hrun, hdr, s_run_e c_57]; exact hwhy)]; exact ⟨_, rfl, rfl, _, _, N2, (fun j hj => by rw [hB1]; exact bad_back hj), (by simp [uI, oNo]), (by rw [uI_n (by decide), hI5 16 (by decide) (by decide), hI4 16 (by decide) (by decide), uI_n (by decide), h16]), (by rw [uI_n (by decide), hI5 19 (by decide) (by decide), hI4 19 (by decide) (by decide), uI_s]), (fun k a5 a6 a7 a8 a9 a10 a16 a17 a18 a19 a20 => by rw [uI_n a5, hI5 k a7 a8, hI4 k a7 a8, uI_n a19, hI2 k a16 a17 a18 a20, uI_n a5]), (fun k a1 a4 a13 a14 a15 => hN k a1 a13 a14 a15), ⟨by rw [uI_n (by decide), hI5 9 (by decide) (by decide), hI4 9 (by decide) (by decide), uI_n (by decide), hI2 9 (by decide) (by decide) (by decide) (by decide), uI_n (by decide)], by rw [uI_n (by decide), hI5 10 (by decide) (by decide), hI4 10 (by decide) (by decide), uI_n (by decide), hI2 10 (by decide) (by decide) (by decide) (by decide), uI_n (by decide)]⟩, (by rw [if_neg (show ¬ (oNo 1 R).1 = 0 by simp [oNo])]; exact ⟨by rw [uI_n (by decide), hI5 6 (by decide) (by decide), hI4 6 (by decide) (by decide), uI_n (by decide), hI2 6 (by decide) (by decide) (by decide) (by decide), uI_n (by decide)], hN 4 (by decide) (by decide) (by decide) (by decide)⟩), rfl⟩)
      · refine k_goto (tgt := 95) dX6_read_60 (by decide) ?_
        refine k_ic1 (v := nI (k + 1)) dX6_read_95 (nI_1 k) (Nat.le_of_ble_eq_true rfl) ?_
        refine k_goto (tgt := 42) dX6_read_98 (by decide) ?_
        have c0 : (s_does R1 o).1 = 0 := by simpa using c_57
        exact ih (k + 1) (by omega) I5 _ _ (hI4.trans hI5) hR1.does (by rw [hrun, hdr, s_run_s c0])
  refine k_al0 dX6_read_0 ?_
  refine k_cVV0 cvX6_87_5 dX6_read_1 (mc_X6_begins ht hA) (mW_mo hA) (Nat.le_of_eq (Nat.zero_add _)) (Nat.le_of_eq (Nat.zero_add _)) (fun h_1 e_1 => ?_)
  subst e_1
  refine k_al0 dX6_read_4 ?_
  refine k_cVV0 cvX6_236_5 dX6_read_5 (mc_X6_reads ht hA (T := T) (by rw [mBf_n (by decide)]; exact hT) (n := n) (by rw [uI_n (by decide)]; exact hf) hn) (mW_mo hA) (Nat.le_of_eq (Nat.zero_add _)) (Nat.le_of_eq (Nat.zero_add _)) (fun h_5 e_5 => ?_)
  obtain ⟨I2, N2, hN2, h17, h20, h16, hI2, hok, rfl⟩ := e_5
  have hN : ∀ k, k ≠ 1 → k ≠ 13 → k ≠ 14 → k ≠ 15 → N2 k = N k := fun k a1 a13 a14 a15 => (hN2 k a13 a14 a15).trans (mBf_n a1)
  have hB1 : N2 1 = va_cpy R (N 1) 0 0 222 := by rw [hN2 1 (by decide) (by decide) (by decide)]; exact uA_at
  refine k_al0 dX6_read_8 ?_
  refine k_al0 dX6_read_9 ?_
  refine m_g20 hA fgX6_72_5 dX6_read_10 ?_
  rw [h20]
  refine k_if_eq (tgt := 23) dX6_read_13 (by decide) (fun c_13 => ?_) (fun c_13 => ?_)
  · refine k_iconst (v := (-1)) dX6_read_23 rfl ?_
    refine m_p19 hA fpX6_69_5 dX6_read_24 ?_
    refine k_al0 dX6_read_27 ?_
    refine m_g20 hA fgX6_72_5 dX6_read_28 ?_
    rw [uI_n (by decide), h20]
    refine k_if_eq (tgt := 40) dX6_read_31 (by decide) (fun c_31 => ?_) (fun c_31 => absurd (c_13) c_31)
    refine k_iconst (v := 0) dX6_read_40 rfl ?_
    refine k_is1 dX6_read_41 (Nat.le_of_ble_eq_true rfl) ?_
    have hs : (p_seq T n 21 0).1 = true := by simpa [bI] using c_13
    obtain ⟨h18, hH⟩ := hok hs
    exact loop hs I2 N2 h16 hI2 h18 hH hN hB1 (p_seq T n 21 0).2.1.length 0 (by omega) (uI I2 19 (-1)) R none mW78.rfl' hR rfl
  · refine k_al0 dX6_read_16 ?_
    refine m_g17 hA fgX6_63_5 dX6_read_17 ?_
    rw [h17]
    refine k_goto (tgt := 24) dX6_read_20 (by decide) ?_
    refine m_p19 hA fpX6_69_5 dX6_read_24 ?_
    refine k_al0 dX6_read_27 ?_
    refine m_g20 hA fgX6_72_5 dX6_read_28 ?_
    rw [uI_n (by decide), h20]
    refine k_if_eq (tgt := 40) dX6_read_31 (by decide) (fun c_31 => absurd c_31 (c_13)) (fun c_31 => ?_)
    refine k_al0 dX6_read_34 ?_
    refine k_iconst (v := 1) dX6_read_35 rfl ?_
    refine k_cVI1 cvX6_75_5 dX6_read_36 (mc_X6_no ht hA _) (mW_mo hA) (Nat.le_of_eq (Nat.zero_add _)) (Nat.le_of_eq (Nat.zero_add _)) (fun r_36 h_36 e_36 => ?_)
    obtain ⟨rfl, rfl⟩ := e_36
    exact k_iret dX6_read_39 rfl rfl (by rw [hPP, o_read_bad (show (p_seq T n 21 0).1 = false by simpa [bI] using c_13)]; exact ⟨_, rfl, rfl, _, R, N2, (fun _ _ => rfl), (by simp [uI, oNo]), (by simp [uI, h16]), (by simp [uI]), (fun k a5 a6 a7 a8 a9 a10 a16 a17 a18 a19 a20 => by rw [uI_n a5, uI_n a19, hI2 k a16 a17 a18 a20, uI_n a5]), (fun k a1 a4 a13 a14 a15 => hN k a1 a13 a14 a15), ⟨by rw [uI_n (by decide), uI_n (by decide), hI2 9 (by decide) (by decide) (by decide) (by decide), uI_n (by decide)], by rw [uI_n (by decide), uI_n (by decide), hI2 10 (by decide) (by decide) (by decide) (by decide), uI_n (by decide)]⟩, (by rw [if_neg (show ¬ (oNo 1 R).1 = 0 by simp [oNo])]; exact ⟨by rw [uI_n (by decide), uI_n (by decide), hI2 6 (by decide) (by decide) (by decide) (by decide), uI_n (by decide)], hN 4 (by decide) (by decide) (by decide) (by decide)⟩), rfl⟩)
