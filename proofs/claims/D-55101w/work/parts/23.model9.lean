/-! THE MODEL: contracts of its methods, 9 (printed by tools/mk_model9.py) -/
set_option maxRecDepth 100000
theorem cvX6_206_5 : CVs "TissueBalloonsModel" 206 5 yX6_fliesOn kX6_fliesOn 1 := ⟨⟨TX6, 21, rfl⟩, q3390, q3392, qs63, q100, q3393, ⟨by decide, by decide⟩, rfl⟩
theorem cvX6_203_5 : CVs "TissueBalloonsModel" 203 5 yX6_plansOfNow kX6_plansOfNow 0 := ⟨⟨TX6, 21, rfl⟩, q3386, q3388, qs62, q100, q3389, ⟨by decide, by decide⟩, rfl⟩
theorem cvX6_209_5 : CVs "TissueBalloonsModel" 209 5 yX6_goesMinute kX6_goesMinute 0 := ⟨⟨TX6, 21, rfl⟩, q3382, q3384, qs61, q100, q3385, ⟨by decide, by decide⟩, rfl⟩
theorem csX6_213 : CSs "TissueBalloonsModel" 213 yX6_areMinutes kX6_areMinutes 1 := ⟨q3375, q3376, q100, q3377, ⟨by decide, by decide⟩, rfl⟩
theorem cvX6_216_5 : CVs "TissueBalloonsModel" 216 5 yX6_goes kX6_goes 1 := ⟨⟨TX6, 21, rfl⟩, q3378, q3380, qs60, q100, q3381, ⟨by decide, by decide⟩, rfl⟩
theorem s_minute_2 {R R1 : Row} (h1 : s_plansNow (nP R) R = R1) : (s_minute R).2 = (s_balls (nB R1) R1).2 := by subst h1; rfl
theorem s_minute_1 {R R1 R2 R3 : Row} (h1 : s_plansNow (nP R) R = R1) (h2 : (s_balls (nB R1) R1).1 = R2) (h3 : s_crews R2 (nC R2) = R3) : (s_minute R).1 = upd (if s_tenth R3 = true then s_dry R3 (nR R3) else R3) 0 ((if s_tenth R3 = true then s_dry R3 (nR R3) else R3) 0 + 1) := by subst h1; subst h2; subst h3; rfl
theorem ite_dry {R : Row} {i : Nat} (h : 0 < i → s_tenth R = true) (hi : i = nR R) : (if s_tenth R = true then s_dry R (nR R) else R) = s_dry R (nR R) := by
  by_cases e : s_tenth R = true
  · rw [if_pos e]
  · rw [if_neg e]
    have : i = 0 := by rcases Nat.eq_zero_or_pos i with x | x; exact x; exact absurd (h x) e
    rw [← hi, this, s_dry_0]
theorem ite_dryN {R : Row} {i : Nat} (h : 0 < i → s_tenth R = true) (e : ¬ s_tenth R = true) : (if s_tenth R = true then s_dry R (nR R) else R) = s_dry R i := by
  have : i = 0 := by rcases Nat.eq_zero_or_pos i with x | x; exact x; exact absurd (h x) e
  rw [if_neg e, this, s_dry_0]
theorem mc_X6_goesMinute {l : Launch} (ht : l.stackTraces = false) {g : gT} {h : hp} {A : Nat → Nat} (hA : mOK A) {I R : Nat → Int32} {N : Nat → Nat → Int32} (hR : RI R) : MM l g yX6_goesMinute kX6_goesMinute [.ref (A 21)] (mW h A I R N) (pI fun v_ h' => v_ = (s_minute R).2 ∧ ∃ I', mW78 I I' ∧ h' = mW h A I' (s_minute R).1 N) (noX) (0) (0) := by
  refine MM.of (by decide) rfl rfl rfl (List.forall_mem_cons.mpr ⟨rfl, fun _ h => absurd h List.not_mem_nil⟩) (Nat.le_of_ble_eq_true rfl) ht fun X => ?_
  show Wk _ _ _ _ _ _ _ _ _ [some (.ref (A 21)), none, none] _ _
  refine Wk.gen fun PP hPP => ?_
  have hmain : ∀ R1 R2 R3 : Row, s_plansNow (nP R) R = R1 → (s_balls (nB R1) R1).1 = R2 → s_crews R2 (nC R2) = R3 → ∀ I1, mW78 I I1 → Wk l g X kX6_goesMinute PP noX 0 0 4 [some (.ref (A 21)), none, none] [] (mW h A I1 R1 N) := by
    intro R1 R2 R3 hR1 hR2 hR3 I1 hI
    have h1 : RI R1 := by rw [← hR1]; exact hR.plansNow _ rfl
    have h2 : RI R2 := by rw [← hR2]; exact (s_balls_ok h1 _ (Nat.le_refl _)).1
    have h28 := h1.h28
    have h38 := h2.h38
    have h3 : RI R3 := by rw [← hR3]; exact h2.crews h38
    have h18 := h3.h18
    have dries : ∀ d i, i + d = nR R3 → (0 < i → s_tenth R3 = true) → Wk l g X kX6_goesMinute PP noX 0 0 94 [some (.ref (A 21)), some (.int (s_balls (nB R1) R1).2), some (.int (nI i))] [] (mW h A I1 (s_dry R3 i) N) := by
      intro d
      induction d with
      | zero =>
        intro i hid ht0
        have hi : i = nR R3 := by omega
        refine k_il2 dX6_goesMinute_94 ?_
        refine k_al0 dX6_goesMinute_95 ?_
        refine m_g0 hA fgX6_7_5 dX6_goesMinute_96 ?_
        refine k_iconst (v := 1) dX6_goesMinute_99 rfl ?_
        refine m_ldn hA dX6_goesMinute_100 (⟨rfl, by decide⟩ : ixI _ 1) (by decide) ?_
        rw [s_dry_n (by decide) (by omega), h3.h1]
        refine k_icmp_ge (tgt := 142) dX6_goesMinute_101 (by decide) (fun c_101 => ?_) (fun c_101 => absurd ((show nI (nR R3) ≤ nI i by rw [hi]; exact Int32.le_refl _)) c_101)
        refine k_al0 dX6_goesMinute_142 ?_
        refine m_g0 hA fgX6_7_5 dX6_goesMinute_143 ?_
        refine k_iconst (v := 0) dX6_goesMinute_146 rfl ?_
        refine k_dup2 dX6_goesMinute_147 ?_
        refine m_ldn hA dX6_goesMinute_148 (⟨rfl, by decide⟩ : ixI _ 0) (by decide) ?_
        refine k_iconst (v := 1) dX6_goesMinute_149 rfl ?_
        refine k_iadd dX6_goesMinute_150 ?_
        refine m_stn hA dX6_goesMinute_151 (⟨rfl, by decide⟩ : ixI _ 0) (by decide) ?_
        refine k_il1 dX6_goesMinute_152 ?_
        exact k_iret dX6_goesMinute_153 rfl rfl (by rw [hPP]; exact ⟨_, rfl, by rw [s_minute_2 hR1], I1, hI, by rw [s_minute_1 hR1 hR2 hR3, hi, ite_dry ht0 hi]⟩)
      | succ d ih =>
        intro i hid ht0
        have hi : i < nR R3 := by omega
        refine k_il2 dX6_goesMinute_94 ?_
        refine k_al0 dX6_goesMinute_95 ?_
        refine m_g0 hA fgX6_7_5 dX6_goesMinute_96 ?_
        refine k_iconst (v := 1) dX6_goesMinute_99 rfl ?_
        refine m_ldn hA dX6_goesMinute_100 (⟨rfl, by decide⟩ : ixI _ 1) (by decide) ?_
        rw [s_dry_n (by decide) (by omega), h3.h1]
        refine k_icmp_ge (tgt := 142) dX6_goesMinute_101 (by decide) (fun c_101 => absurd c_101 (nI_ge hi (by omega))) (fun c_101 => ?_)
        refine k_al0 dX6_goesMinute_104 ?_
        refine m_g0 hA fgX6_7_5 dX6_goesMinute_105 ?_
        refine k_iconst (v := 0) dX6_goesMinute_108 rfl ?_
        refine m_ldn hA dX6_goesMinute_109 (⟨rfl, by decide⟩ : ixI _ 0) (by decide) ?_
        rw [s_dry_n (by decide) (by omega)]
        refine k_bipush (v := 10) dX6_goesMinute_110 rfl ?_
        refine k_irem dX6_goesMinute_112 (by decide) ?_
        refine k_bipush (v := 9) dX6_goesMinute_113 rfl ?_
        refine k_icmp_ne (tgt := 142) dX6_goesMinute_115 (by decide) (fun c_115 => ?_) (fun c_115 => ?_)
        · refine k_al0 dX6_goesMinute_142 ?_
          refine m_g0 hA fgX6_7_5 dX6_goesMinute_143 ?_
          refine k_iconst (v := 0) dX6_goesMinute_146 rfl ?_
          refine k_dup2 dX6_goesMinute_147 ?_
          refine m_ldn hA dX6_goesMinute_148 (⟨rfl, by decide⟩ : ixI _ 0) (by decide) ?_
          refine k_iconst (v := 1) dX6_goesMinute_149 rfl ?_
          refine k_iadd dX6_goesMinute_150 ?_
          refine m_stn hA dX6_goesMinute_151 (⟨rfl, by decide⟩ : ixI _ 0) (by decide) ?_
          refine k_il1 dX6_goesMinute_152 ?_
          exact k_iret dX6_goesMinute_153 rfl rfl (by rw [hPP]; exact ⟨_, rfl, by rw [s_minute_2 hR1], I1, hI, by rw [s_minute_1 hR1 hR2 hR3, ite_dryN ht0 (fun e => c_115 (of_decide_eq_true e))]⟩)
        · refine k_al0 dX6_goesMinute_118 ?_
          refine k_il2 dX6_goesMinute_119 ?_
          refine k_iconst (v := 1) dX6_goesMinute_120 rfl ?_
          refine k_iconst (v := 0) dX6_goesMinute_121 rfl ?_
          refine k_al0 dX6_goesMinute_122 ?_
          refine k_il2 dX6_goesMinute_123 ?_
          refine k_iconst (v := 1) dX6_goesMinute_124 rfl ?_
          refine k_cVI2 cvX6_104_5 dX6_goesMinute_125 (mc_X6_rv ht hA (j := 1) (by exact rfl) rfl (by omega) (by decide)) (mW_mo hA) (Nat.le_of_eq (Nat.zero_add _)) (Nat.le_of_eq (Nat.zero_add _)) (fun r_125 h_125 e_125 => ?_)
          obtain ⟨rfl, rfl⟩ := e_125
          refine k_iconst (v := 1) dX6_goesMinute_128 rfl ?_
          refine k_isub dX6_goesMinute_129 ?_
          refine k_cSI2 csX6_197 dX6_goesMinute_130 (mc_X6_most ht _ _) (Nat.le_of_eq (Nat.zero_add _)) (Nat.le_of_eq (Nat.zero_add _)) (fun r_130 h_130 e_130 => ?_)
          obtain ⟨rfl, rfl⟩ := e_130
          refine k_cVV3 cvX6_120_5 dX6_goesMinute_133 (mc_X6_lr ht hA (j := 1) (by exact rfl) rfl (by omega) (by decide)) (mW_mo hA) (Nat.le_of_eq (Nat.zero_add _)) (Nat.le_of_eq (Nat.zero_add _)) (fun h_133 e_133 => ?_)
          subst e_133
          rw [s_dry_s]
          refine k_ic2 (v := nI (i + 1)) dX6_goesMinute_136 (nI_1 i) (Nat.le_of_ble_eq_true rfl) ?_
          refine k_goto (tgt := 94) dX6_goesMinute_139 (by decide) ?_
          exact ih (i + 1) (by omega) ((fun _ => by unfold s_tenth; exact decide_eq_true (by simpa using c_115)))
    have crews : ∀ d i, i + d = nC R2 → Wk l g X kX6_goesMinute PP noX 0 0 58 [some (.ref (A 21)), some (.int (s_balls (nB R1) R1).2), some (.int (nI i))] [] (mW h A I1 (s_crews R2 i) N) := by
      intro d
      induction d with
      | zero =>
        intro i hid
        have hi : i = nC R2 := by omega
        refine k_il2 dX6_goesMinute_58 ?_
        refine k_al0 dX6_goesMinute_59 ?_
        refine m_g0 hA fgX6_7_5 dX6_goesMinute_60 ?_
        refine k_iconst (v := 3) dX6_goesMinute_63 rfl ?_
        refine m_ldn hA dX6_goesMinute_64 (⟨rfl, by decide⟩ : ixI _ 3) (by decide) ?_
        rw [s_crews_n (by decide) (by omega), h2.h3]
        refine k_icmp_ge (tgt := 92) dX6_goesMinute_65 (by decide) (fun c_65 => ?_) (fun c_65 => absurd ((show nI (nC R2) ≤ nI i by rw [hi]; exact Int32.le_refl _)) c_65)
        refine k_iconst (v := 0) dX6_goesMinute_92 rfl ?_
        refine k_is2 dX6_goesMinute_93 (Nat.le_of_ble_eq_true rfl) ?_
        rw [hi, hR3]
        have hz := dries (nR R3) 0 (by omega) (fun e => absurd e (Nat.lt_irrefl 0))
        rw [s_dry_0] at hz
        exact hz
      | succ d ih =>
        intro i hid
        have hi : i < nC R2 := by omega
        refine k_il2 dX6_goesMinute_58 ?_
        refine k_al0 dX6_goesMinute_59 ?_
        refine m_g0 hA fgX6_7_5 dX6_goesMinute_60 ?_
        refine k_iconst (v := 3) dX6_goesMinute_63 rfl ?_
        refine m_ldn hA dX6_goesMinute_64 (⟨rfl, by decide⟩ : ixI _ 3) (by decide) ?_
        rw [s_crews_n (by decide) (by omega), h2.h3]
        refine k_icmp_ge (tgt := 92) dX6_goesMinute_65 (by decide) (fun c_65 => absurd c_65 (nI_ge hi (by omega))) (fun c_65 => ?_)
        refine k_al0 dX6_goesMinute_68 ?_
        refine k_il2 dX6_goesMinute_69 ?_
        refine k_iconst (v := 1) dX6_goesMinute_70 rfl ?_
        refine k_iconst (v := 0) dX6_goesMinute_71 rfl ?_
        refine k_al0 dX6_goesMinute_72 ?_
        refine k_il2 dX6_goesMinute_73 ?_
        refine k_iconst (v := 1) dX6_goesMinute_74 rfl ?_
        refine k_cVI2 cvX6_155_5 dX6_goesMinute_75 (mc_X6_cv ht hA (j := 1) (by exact rfl) rfl (by omega) (by decide)) (mW_mo hA) (Nat.le_of_eq (Nat.zero_add _)) (Nat.le_of_eq (Nat.zero_add _)) (fun r_75 h_75 e_75 => ?_)
        obtain ⟨rfl, rfl⟩ := e_75
        refine k_iconst (v := 1) dX6_goesMinute_78 rfl ?_
        refine k_isub dX6_goesMinute_79 ?_
        refine k_cSI2 csX6_197 dX6_goesMinute_80 (mc_X6_most ht _ _) (Nat.le_of_eq (Nat.zero_add _)) (Nat.le_of_eq (Nat.zero_add _)) (fun r_80 h_80 e_80 => ?_)
        obtain ⟨rfl, rfl⟩ := e_80
        refine k_cVV3 cvX6_149_5 dX6_goesMinute_83 (mc_X6_lc ht hA (j := 1) (by exact rfl) rfl (by omega) (by decide)) (mW_mo hA) (Nat.le_of_eq (Nat.zero_add _)) (Nat.le_of_eq (Nat.zero_add _)) (fun h_83 e_83 => ?_)
        subst e_83
        rw [s_crews_s]
        refine k_ic2 (v := nI (i + 1)) dX6_goesMinute_86 (nI_1 i) (Nat.le_of_ble_eq_true rfl) ?_
        refine k_goto (tgt := 58) dX6_goesMinute_89 (by decide) ?_
        exact ih (i + 1) (by omega)
    have balls : ∀ d b, b + d = nB R1 → Wk l g X kX6_goesMinute PP noX 0 0 8 [some (.ref (A 21)), some (.int (s_balls b R1).2), some (.int (nI b))] [] (mW h A I1 (s_balls b R1).1 N) := by
      intro d
      induction d with
      | zero =>
        intro b hbd
        have hb : b = nB R1 := by omega
        obtain ⟨k1, k2⟩ := s_balls_ok h1 b (by omega)
        have k3 := nB_of (k2 2 (by decide) (by decide))
        refine k_il2 dX6_goesMinute_8 ?_
        refine k_al0 dX6_goesMinute_9 ?_
        refine m_g0 hA fgX6_7_5 dX6_goesMinute_10 ?_
        refine k_iconst (v := 2) dX6_goesMinute_13 rfl ?_
        refine m_ldn hA dX6_goesMinute_14 (⟨rfl, by decide⟩ : ixI _ 2) (by decide) ?_
        rw [k2 2 (by decide) (by decide), h1.h2]
        refine k_icmp_ge (tgt := 56) dX6_goesMinute_15 (by decide) (fun c_15 => ?_) (fun c_15 => absurd ((show nI (nB R1) ≤ nI b by rw [hb]; exact Int32.le_refl _)) c_15)
        refine k_iconst (v := 0) dX6_goesMinute_56 rfl ?_
        refine k_is2 dX6_goesMinute_57 (Nat.le_of_ble_eq_true rfl) ?_
        rw [hb, hR2]
        have hz := crews (nC R2) 0 (by omega)
        rw [s_crews_0] at hz
        exact hz
      | succ d ih =>
        intro b hbd
        have hb : b < nB R1 := by omega
        obtain ⟨k1, k2⟩ := s_balls_ok h1 b (by omega)
        have k3 := nB_of (k2 2 (by decide) (by decide))
        refine k_il2 dX6_goesMinute_8 ?_
        refine k_al0 dX6_goesMinute_9 ?_
        refine m_g0 hA fgX6_7_5 dX6_goesMinute_10 ?_
        refine k_iconst (v := 2) dX6_goesMinute_13 rfl ?_
        refine m_ldn hA dX6_goesMinute_14 (⟨rfl, by decide⟩ : ixI _ 2) (by decide) ?_
        rw [k2 2 (by decide) (by decide), h1.h2]
        refine k_icmp_ge (tgt := 56) dX6_goesMinute_15 (by decide) (fun c_15 => absurd c_15 (nI_ge hb (by omega))) (fun c_15 => ?_)
        refine k_al0 dX6_goesMinute_18 ?_
        refine k_il2 dX6_goesMinute_19 ?_
        refine k_cVI1 cvX6_143_5 dX6_goesMinute_20 (mc_X6_isFlying ht hA (by omega)) (mW_mo hA) (Nat.le_of_eq (Nat.zero_add _)) (Nat.le_of_eq (Nat.zero_add _)) (fun r_20 h_20 e_20 => ?_)
        obtain ⟨rfl, rfl⟩ := e_20
        refine k_if_ne (tgt := 29) dX6_goesMinute_23 (by decide) (fun c_23 => ?_) (fun c_23 => ?_)
        · have hfl : (s_balls b R1).1 (52 + 7 * b + 0) = 1 := of_decide_eq_true (bI_n0.mp c_23)
          obtain ⟨s0, w0, f0, g0, g1, g2, g3, g4, g5, g6, g7⟩ := k1.ba b (by omega)
          obtain ⟨q, p0, hq, hq3, -⟩ := g7 ((nI_eq (by omega) (by decide)).mp (g0.symm.trans (hfl.trans (show (1 : Int32) = nI 1 by decide))))
          refine k_al0 dX6_goesMinute_29 ?_
          refine k_il2 dX6_goesMinute_30 ?_
          refine k_cVV1 cvX6_206_5 dX6_goesMinute_31 (mc_X6_fliesOn ht hA (by omega) hq hq3 k1.h1 k1.h18) (mW_mo hA) (Nat.le_of_eq (Nat.zero_add _)) (Nat.le_of_eq (Nat.zero_add _)) (fun h_31 e_31 => ?_)
          subst e_31
          refine k_il1 dX6_goesMinute_34 ?_
          refine k_al0 dX6_goesMinute_35 ?_
          refine k_il2 dX6_goesMinute_36 ?_
          refine k_cVI1 cvX6_143_5 dX6_goesMinute_37 (mc_X6_isFlying ht hA (by omega)) (mW_mo hA) (Nat.le_of_eq (Nat.zero_add _)) (Nat.le_of_eq (Nat.zero_add _)) (fun r_37 h_37 e_37 => ?_)
          obtain ⟨rfl, rfl⟩ := e_37
          refine k_if_eq (tgt := 47) dX6_goesMinute_40 (by decide) (fun c_40 => ?_) (fun c_40 => ?_)
          · refine k_iconst (v := 1) dX6_goesMinute_47 rfl ?_
            refine k_iadd dX6_goesMinute_48 ?_
            refine Wk.top (v' := .int (s_balls (b + 1) R1).2) (congrArg Value.int (by rw [s_balls_y hfl]; simp only; rw [if_neg (of_decide_eq_false (bI_0.mp c_40))])) ?_
            refine k_is1 dX6_goesMinute_49 (Nat.le_of_ble_eq_true rfl) ?_
            refine k_ic2 (v := nI (b + 1)) dX6_goesMinute_50 (nI_1 b) (Nat.le_of_ble_eq_true rfl) ?_
            refine k_goto (tgt := 8) dX6_goesMinute_53 (by decide) ?_
            have hz := ih (b + 1) (by omega)
            rw [show (s_balls (b + 1) R1).1 = s_fliesOn (s_balls b R1).1 b by rw [s_balls_y hfl]] at hz
            exact hz
          · refine k_iconst (v := 0) dX6_goesMinute_43 rfl ?_
            refine k_goto (tgt := 48) dX6_goesMinute_44 (by decide) ?_
            refine k_iadd dX6_goesMinute_48 ?_
            refine Wk.top (v' := .int (s_balls (b + 1) R1).2) (congrArg Value.int (by rw [s_balls_y hfl]; simp only; rw [if_pos (of_decide_eq_true (bI_n0.mp c_40))])) ?_
            refine k_is1 dX6_goesMinute_49 (Nat.le_of_ble_eq_true rfl) ?_
            refine k_ic2 (v := nI (b + 1)) dX6_goesMinute_50 (nI_1 b) (Nat.le_of_ble_eq_true rfl) ?_
            refine k_goto (tgt := 8) dX6_goesMinute_53 (by decide) ?_
            have hz := ih (b + 1) (by omega)
            rw [show (s_balls (b + 1) R1).1 = s_fliesOn (s_balls b R1).1 b by rw [s_balls_y hfl]] at hz
            exact hz
        · have hnf : ¬ (s_balls b R1).1 (52 + 7 * b + 0) = 1 := of_decide_eq_false (bI_0.mp (by simpa using c_23))
          refine k_goto (tgt := 50) dX6_goesMinute_26 (by decide) ?_
          refine k_ic2 (v := nI (b + 1)) dX6_goesMinute_50 (nI_1 b) (Nat.le_of_ble_eq_true rfl) ?_
          refine k_goto (tgt := 8) dX6_goesMinute_53 (by decide) ?_
          have hz := ih (b + 1) (by omega)
          rw [s_balls_n hnf] at hz
          exact hz
    refine k_iconst (v := 0) dX6_goesMinute_4 rfl ?_
    refine k_is1 dX6_goesMinute_5 (Nat.le_of_ble_eq_true rfl) ?_
    refine k_iconst (v := 0) dX6_goesMinute_6 rfl ?_
    refine k_is2 dX6_goesMinute_7 (Nat.le_of_ble_eq_true rfl) ?_
    exact balls (nB R1) 0 (by omega)
  refine k_al0 dX6_goesMinute_0 ?_
  refine k_cVV0 cvX6_203_5 dX6_goesMinute_1 (mc_X6_plansOfNow ht hA hR) (mW_mo hA) (Nat.le_of_eq (Nat.zero_add _)) (Nat.le_of_eq (Nat.zero_add _)) (fun h_1 e_1 => ?_)
  obtain ⟨I1, hI, rfl⟩ := e_1
  exact hmain _ _ _ rfl rfl rfl I1 hI
theorem mc_X6_goes {l : Launch} (ht : l.stackTraces = false) {g : gT} {h : hp} {A : Nat → Nat} (hA : mOK A) {I R : Nat → Int32} {N : Nat → Nat → Int32} (hR : RI R) {n : Nat} (hn : n ≤ 99) : MM l g yX6_goes kX6_goes [.ref (A 21), .int (nI n)] (mW h A I R N) (pI fun v_ h' => v_ = (s_goes n R).2 ∧ ∃ I', mW78 I I' ∧ h' = mW h A I' (s_goes n R).1 N) (noX) (0) (0) := by
  refine MM.of (by decide) rfl rfl rfl (List.forall_mem_cons.mpr ⟨rfl, List.forall_mem_cons.mpr ⟨rfl, fun _ h => absurd h List.not_mem_nil⟩⟩) (Nat.le_of_ble_eq_true rfl) ht fun X => ?_
  show Wk _ _ _ _ _ _ _ _ _ [some (.ref (A 21)), some (.int (nI n)), none, none] _ _
  refine Wk.gen fun PP hPP => ?_
  have loop : ∀ d i, i + d = n → ∀ I1, mW78 I I1 → Wk l g X kX6_goes PP noX 0 0 4 [some (.ref (A 21)), some (.int (nI n)), some (.int (s_goes i R).2), some (.int (nI i))] [] (mW h A I1 (s_goes i R).1 N) := by
    intro d
    induction d with
    | zero =>
      intro i hid I1 hI
      have hi : i = n := by omega
      refine k_il3 dX6_goes_4 ?_
      refine k_il1 dX6_goes_5 ?_
      refine k_icmp_ge (tgt := 22) dX6_goes_6 (by decide) (fun c_6 => ?_) (fun c_6 => absurd ((show nI n ≤ nI i by rw [hi]; exact Int32.le_refl _)) c_6)
      refine k_il2 dX6_goes_22 ?_
      exact k_iret dX6_goes_23 rfl rfl (by rw [hPP, hi]; exact ⟨_, rfl, rfl, I1, hI, rfl⟩)
    | succ d ih =>
      intro i hid I1 hI
      have hi : i < n := by omega
      refine k_il3 dX6_goes_4 ?_
      refine k_il1 dX6_goes_5 ?_
      refine k_icmp_ge (tgt := 22) dX6_goes_6 (by decide) (fun c_6 => absurd c_6 (nI_ge hi (by omega))) (fun c_6 => ?_)
      refine k_il2 dX6_goes_9 ?_
      refine k_al0 dX6_goes_10 ?_
      refine k_cVI0 cvX6_209_5 dX6_goes_11 (mc_X6_goesMinute ht hA (hR.goes i)) (mW_mo hA) (Nat.le_of_eq (Nat.zero_add _)) (Nat.le_of_eq (Nat.zero_add _)) (fun r_11 h_11 e_11 => ?_)
      obtain ⟨rfl, I2, hI2, rfl⟩ := e_11
      refine k_iadd dX6_goes_14 ?_
      refine k_is2 dX6_goes_15 (Nat.le_of_ble_eq_true rfl) ?_
      refine k_ic3 (v := nI (i + 1)) dX6_goes_16 (nI_1 i) (Nat.le_of_ble_eq_true rfl) ?_
      refine k_goto (tgt := 4) dX6_goes_19 (by decide) ?_
      exact ih (i + 1) (by omega) _ (hI.trans hI2)
  refine k_iconst (v := 0) dX6_goes_0 rfl ?_
  refine k_is2 dX6_goes_1 (Nat.le_of_ble_eq_true rfl) ?_
  refine k_iconst (v := 0) dX6_goes_2 rfl ?_
  refine k_is3 dX6_goes_3 (Nat.le_of_ble_eq_true rfl) ?_
  exact loop n 0 (by omega) I mW78.rfl'
theorem inB_1 {v : Int32} (h : inB v 1 60 = true) : ∃ n, v = nI n ∧ n ≤ 60 := by
  obtain ⟨h1, h2⟩ := inB_t.mp h
  obtain ⟨j, hj, rfl⟩ := nI_of (x := v) (Int32.not_lt.mpr (Int32.le_trans (by decide) h1))
  exact ⟨j, rfl, (nI_leI hj (by decide)).mp (show nI j ≤ nI 60 from h2)⟩
theorem mc_X6_pass {l : Launch} (ht : l.stackTraces = false) {g : gT} {h : hp} {A : Nat → Nat} (hA : mOK A) {I R : Nat → Int32} {N : Nat → Nat → Int32} (m : Int32) (hR : RI R) {cc : Nat} (hc : I 6 = nI cc) (hc8 : cc ≤ 8) : MM l g yX6_pass kX6_pass [.ref (A 21), .int m] (mW h A I R N) (mPost (o_pass R m) h A I R N) (noX) (0) (0) := by
  refine MM.of (by decide) rfl rfl rfl (List.forall_mem_cons.mpr ⟨rfl, List.forall_mem_cons.mpr ⟨rfl, fun _ h => absurd h List.not_mem_nil⟩⟩) (Nat.le_of_ble_eq_true rfl) ht fun X => ?_
  show Wk _ _ _ _ _ _ _ _ _ [some (.ref (A 21)), some (.int m)] _ _
  refine Wk.gen fun PP hPP => ?_
  refine k_al0 dX6_pass_0 ?_
  refine k_cVV0 cvX6_87_5 dX6_pass_1 (mc_X6_begins ht hA) (mW_mo hA) (Nat.le_of_eq (Nat.zero_add _)) (Nat.le_of_eq (Nat.zero_add _)) (fun h_1 e_1 => ?_)
  subst e_1
  refine k_il1 dX6_pass_4 ?_
  refine k_cSI1 csX6_213 dX6_pass_5 (mc_X6_areMinutes ht _) (Nat.le_of_eq (Nat.zero_add _)) (Nat.le_of_eq (Nat.zero_add _)) (fun r_5 h_5 e_5 => ?_)
  obtain ⟨rfl, rfl⟩ := e_5
  refine k_if_eq (tgt := 23) dX6_pass_8 (by decide) (fun c_8 => ?_) (fun c_8 => ?_)
  · refine k_al0 dX6_pass_23 ?_
    refine k_iconst (v := 1) dX6_pass_24 rfl ?_
    refine k_cVI1 cvX6_75_5 dX6_pass_25 (mc_X6_no ht hA _) (mW_mo hA) (Nat.le_of_eq (Nat.zero_add _)) (Nat.le_of_eq (Nat.zero_add _)) (fun r_25 h_25 e_25 => ?_)
    obtain ⟨rfl, rfl⟩ := e_25
    exact k_iret dX6_pass_28 rfl rfl (by rw [hPP, (show o_pass R m = oNo 1 R by unfold o_pass; rw [if_pos (bI_0.mp c_8)])]; exact ⟨_, rfl, rfl, _, _, mOut_no (by decide) (by simp [uI]) (fun k h5 h7 h8 _ _ _ => by simp [uI, h5, h7, h8]), rfl⟩)
  · have hm := bI_n0.mp c_8
    obtain ⟨n, rfl, hn⟩ := inB_1 hm
    refine k_al0 dX6_pass_11 ?_
    refine k_al0 dX6_pass_12 ?_
    refine k_il1 dX6_pass_13 ?_
    refine k_cVI1 cvX6_216_5 dX6_pass_14 (mc_X6_goes ht hA hR (by omega)) (mW_mo hA) (Nat.le_of_eq (Nat.zero_add _)) (Nat.le_of_eq (Nat.zero_add _)) (fun r_14 h_14 e_14 => ?_)
    obtain ⟨rfl, I1, hI, rfl⟩ := e_14
    refine k_cVI1 cvX6_101_5 dX6_pass_17 (mc_X6_keeps ht hA _ (c := cc) (by rw [hI 6 (by decide) (by decide)]; simp [uI]; exact hc) hc8) (mW_mo hA) (Nat.le_of_eq (Nat.zero_add _)) (Nat.le_of_eq (Nat.zero_add _)) (fun r_17 h_17 e_17 => ?_)
    refine k_goto (tgt := 28) dX6_pass_20 (by decide) ?_
    exact k_iret dX6_pass_28 rfl rfl (by obtain ⟨rfl, I', N', hk, rfl⟩ := e_17; rw [hPP, show o_pass R (nI n) = oOk (s_goes n R).2 (s_goes n R).1 by unfold o_pass; rw [if_neg (by rw [hm]; decide), nI_clamp (by omega)]]; exact ⟨_, rfl, rfl, I', N', mOut_ok hk (by rw [hI 5 (by decide) (by decide)]; simp [uI]) (fun k h5 h7 h8 _ _ _ => by rw [hI k h7 h8]; simp [uI, h5]), rfl⟩)
