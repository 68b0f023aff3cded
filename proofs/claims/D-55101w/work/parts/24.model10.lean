/-! THE MODEL: contracts of its methods, 10 (printed by tools/mk_model10.py) -/
set_option maxRecDepth 100000
theorem fgX6_16_5 : FGs "TissueBalloonsModel" 16 5 2 := ⟨RX6, TX6, 21, RX6, rfl, by decide, in_X6, Or.inl q3095, Or.inl rfl⟩
theorem q_fly_1 {R : Row} {b m M : Int32} {f : Nat → Int32} (h : inB b 0 (R 2 - 1) = false) : q_fly R b m M f = (1, 0) := by unfold q_fly; rw [if_pos h]
theorem q_fly_2 {R : Row} {b m M : Int32} {f : Nat → Int32} (h : inB b 0 (R 2 - 1) = true) (h2 : inB m 0 M = false) : q_fly R b m M f = (2, 0) := by unfold q_fly; rw [if_neg (by rw [h]; decide), if_pos h2]
theorem q_fly_3 {R : Row} {i : Nat} {m M : Int32} {f : Nat → Int32} (h : inB (nI i) 0 (R 2 - 1) = true) (h2 : inB m 0 M = true) (hi : i < 2 ^ 31) (h3 : ¬ R (52 + 7 * i + 0) = 1) : q_fly R (nI i) m M f = (3, 0) := by unfold q_fly; rw [if_neg (by rw [h]; decide), if_neg (by rw [h2]; decide), nI_clamp hi, if_pos h3]
theorem q_fly_4 {R : Row} {i : Nat} {m M : Int32} {f : Nat → Int32} (h : inB (nI i) 0 (R 2 - 1) = true) (h2 : inB m 0 M = true) (hi : i < 2 ^ 31) (h3 : R (52 + 7 * i + 0) = 1) : q_fly R (nI i) m M f = (0, f i) := by unfold q_fly; rw [if_neg (by rw [h]; decide), if_neg (by rw [h2]; decide), nI_clamp hi, if_neg (fun e => e h3)]
theorem mc_X6_layerIn {l : Launch} (ht : l.stackTraces = false) {g : gT} {h : hp} {A : Nat → Nat} (hA : mOK A) {I R : Nat → Int32} {N : Nat → Nat → Int32} (b m : Int32) (h2 : R 2 = nI (nB R)) (h28 : nB R ≤ 20) : MM l g yX6_layerIn kX6_layerIn [.ref (A 21), .int b, .int m] (mW h A I R N) (mQry (q_layerIn R b m) h A I R N) (noX) (0) (0) := by
  refine MM.of (by decide) rfl rfl rfl (List.forall_mem_cons.mpr ⟨rfl, List.forall_mem_cons.mpr ⟨rfl, List.forall_mem_cons.mpr ⟨rfl, fun _ h => absurd h List.not_mem_nil⟩⟩⟩) (Nat.le_of_ble_eq_true rfl) ht fun X => ?_
  show Wk _ _ _ _ _ _ _ _ _ [some (.ref (A 21)), some (.int b), some (.int m), none] _ _
  refine Wk.gen fun PP hPP => ?_
  refine k_al0 dX6_layerIn_0 ?_
  refine k_iconst (v := 0) dX6_layerIn_1 rfl ?_
  refine m_p5 hA fpX6_25_5 dX6_layerIn_2 ?_
  refine k_al0 dX6_layerIn_5 ?_
  refine k_il1 dX6_layerIn_6 ?_
  refine k_cVI1 cvX6_158_5 dX6_layerIn_7 (mc_X6_isBalloon ht hA _) (mW_mo hA) (Nat.le_of_eq (Nat.zero_add _)) (Nat.le_of_eq (Nat.zero_add _)) (fun r_7 h_7 e_7 => ?_)
  obtain ⟨rfl, rfl⟩ := e_7
  refine k_if_ne (tgt := 19) dX6_layerIn_10 (by decide) (fun c_10 => ?_) (fun c_10 => ?_)
  · have a1 : inB b 0 (R 2 - 1) = true := bI_n0.mp c_10
    obtain ⟨i, hi, rfl⟩ := (inB_cnt (show nB R < 2 ^ 30 by omega)).mp (by rw [← h2]; exact a1)
    refine k_il2 dX6_layerIn_19 ?_
    refine k_iconst (v := 0) dX6_layerIn_20 rfl ?_
    refine k_bipush (v := 40) dX6_layerIn_21 rfl ?_
    refine k_cSI3 csX6_83 dX6_layerIn_23 (mc_X6_in ht _ _ _) (Nat.le_of_eq (Nat.zero_add _)) (Nat.le_of_eq (Nat.zero_add _)) (fun r_23 h_23 e_23 => ?_)
    obtain ⟨rfl, rfl⟩ := e_23
    refine k_if_ne (tgt := 35) dX6_layerIn_26 (by decide) (fun c_26 => ?_) (fun c_26 => ?_)
    · have a2 := bI_n0.mp c_26
      refine k_al0 dX6_layerIn_35 ?_
      refine k_il1 dX6_layerIn_36 ?_
      refine k_cVI1 cvX6_143_5 dX6_layerIn_37 (mc_X6_isFlying ht hA (by omega)) (mW_mo hA) (Nat.le_of_eq (Nat.zero_add _)) (Nat.le_of_eq (Nat.zero_add _)) (fun r_37 h_37 e_37 => ?_)
      obtain ⟨rfl, rfl⟩ := e_37
      refine k_if_ne (tgt := 49) dX6_layerIn_40 (by decide) (fun c_40 => ?_) (fun c_40 => ?_)
      · have a3 := of_decide_eq_true (bI_n0.mp c_40)
        refine k_il2 dX6_layerIn_49 ?_
        refine k_al0 dX6_layerIn_50 ?_
        refine k_il1 dX6_layerIn_51 ?_
        refine k_iconst (v := 2) dX6_layerIn_52 rfl ?_
        refine k_cVI2 cvX6_140_5 dX6_layerIn_53 (mc_X6_bv ht hA (j := 2) (by exact rfl) rfl (by omega) (by decide)) (mW_mo hA) (Nat.le_of_eq (Nat.zero_add _)) (Nat.le_of_eq (Nat.zero_add _)) (fun r_53 h_53 e_53 => ?_)
        obtain ⟨rfl, rfl⟩ := e_53
        refine k_cSI2 csX6_131 dX6_layerIn_56 (mc_X6_least ht _ _) (Nat.le_of_eq (Nat.zero_add _)) (Nat.le_of_eq (Nat.zero_add _)) (fun r_56 h_56 e_56 => ?_)
        obtain ⟨rfl, rfl⟩ := e_56
        refine k_is3 dX6_layerIn_59 (Nat.le_of_ble_eq_true rfl) ?_
        refine k_iconst (v := (-1)) dX6_layerIn_60 rfl ?_
        refine k_iconst (v := 3) dX6_layerIn_61 rfl ?_
        refine k_al0 dX6_layerIn_62 ?_
        refine k_il1 dX6_layerIn_63 ?_
        refine k_iconst (v := 4) dX6_layerIn_64 rfl ?_
        refine k_cVI2 cvX6_140_5 dX6_layerIn_65 (mc_X6_bv ht hA (j := 4) (by exact rfl) rfl (by omega) (by decide)) (mW_mo hA) (Nat.le_of_eq (Nat.zero_add _)) (Nat.le_of_eq (Nat.zero_add _)) (fun r_65 h_65 e_65 => ?_)
        obtain ⟨rfl, rfl⟩ := e_65
        refine k_il3 dX6_layerIn_68 ?_
        refine k_iadd dX6_layerIn_69 ?_
        refine k_cSI2 csX6_131 dX6_layerIn_70 (mc_X6_least ht _ _) (Nat.le_of_eq (Nat.zero_add _)) (Nat.le_of_eq (Nat.zero_add _)) (fun r_70 h_70 e_70 => ?_)
        obtain ⟨rfl, rfl⟩ := e_70
        refine k_il2 dX6_layerIn_73 ?_
        refine k_il3 dX6_layerIn_74 ?_
        refine k_isub dX6_layerIn_75 ?_
        refine k_isub dX6_layerIn_76 ?_
        refine k_cSI2 csX6_197 dX6_layerIn_77 (mc_X6_most ht _ _) (Nat.le_of_eq (Nat.zero_add _)) (Nat.le_of_eq (Nat.zero_add _)) (fun r_77 h_77 e_77 => ?_)
        obtain ⟨rfl, rfl⟩ := e_77
        exact k_iret dX6_layerIn_80 rfl rfl (by rw [hPP, show q_layerIn R (nI i) m = (0, s_layIn R m i) from q_fly_4 a1 a2 (by omega) a3]; exact ⟨_, rfl, rfl, by first | rfl | rw [uI_uI]⟩)
      · refine k_al0 dX6_layerIn_43 ?_
        refine k_iconst (v := 3) dX6_layerIn_44 rfl ?_
        refine k_cVI1 cvX6_75_5 dX6_layerIn_45 (mc_X6_no ht hA _) (mW_mo hA) (Nat.le_of_eq (Nat.zero_add _)) (Nat.le_of_eq (Nat.zero_add _)) (fun r_45 h_45 e_45 => ?_)
        obtain ⟨rfl, rfl⟩ := e_45
        exact k_iret dX6_layerIn_48 rfl rfl (by rw [hPP, show q_layerIn R (nI i) m = (3, 0) from q_fly_3 a1 a2 (by omega) (of_decide_eq_false (bI_0.mp (by simpa using c_40)))]; exact ⟨_, rfl, rfl, by first | rfl | rw [uI_uI]⟩)
    · refine k_al0 dX6_layerIn_29 ?_
      refine k_iconst (v := 2) dX6_layerIn_30 rfl ?_
      refine k_cVI1 cvX6_75_5 dX6_layerIn_31 (mc_X6_no ht hA _) (mW_mo hA) (Nat.le_of_eq (Nat.zero_add _)) (Nat.le_of_eq (Nat.zero_add _)) (fun r_31 h_31 e_31 => ?_)
      obtain ⟨rfl, rfl⟩ := e_31
      exact k_iret dX6_layerIn_34 rfl rfl (by rw [hPP, show q_layerIn R (nI i) m = (2, 0) from q_fly_2 a1 (bI_0.mp (by simpa using c_26))]; exact ⟨_, rfl, rfl, by first | rfl | rw [uI_uI]⟩)
  · refine k_al0 dX6_layerIn_13 ?_
    refine k_iconst (v := 1) dX6_layerIn_14 rfl ?_
    refine k_cVI1 cvX6_75_5 dX6_layerIn_15 (mc_X6_no ht hA _) (mW_mo hA) (Nat.le_of_eq (Nat.zero_add _)) (Nat.le_of_eq (Nat.zero_add _)) (fun r_15 h_15 e_15 => ?_)
    obtain ⟨rfl, rfl⟩ := e_15
    exact k_iret dX6_layerIn_18 rfl rfl (by rw [hPP, show q_layerIn R b m = (1, 0) from q_fly_1 (bI_0.mp (by simpa using c_10))]; exact ⟨_, rfl, rfl, by first | rfl | rw [uI_uI]⟩)
theorem mc_X6_layerAgain {l : Launch} (ht : l.stackTraces = false) {g : gT} {h : hp} {A : Nat → Nat} (hA : mOK A) {I R : Nat → Int32} {N : Nat → Nat → Int32} (b m : Int32) (h2 : R 2 = nI (nB R)) (h28 : nB R ≤ 20) : MM l g yX6_layerAgain kX6_layerAgain [.ref (A 21), .int b, .int m] (mW h A I R N) (mQry (q_layerAgain R b m) h A I R N) (noX) (0) (0) := by
  refine MM.of (by decide) rfl rfl rfl (List.forall_mem_cons.mpr ⟨rfl, List.forall_mem_cons.mpr ⟨rfl, List.forall_mem_cons.mpr ⟨rfl, fun _ h => absurd h List.not_mem_nil⟩⟩⟩) (Nat.le_of_ble_eq_true rfl) ht fun X => ?_
  show Wk _ _ _ _ _ _ _ _ _ [some (.ref (A 21)), some (.int b), some (.int m), none, none, none] _ _
  refine Wk.gen fun PP hPP => ?_
  have loop : ∀ i M, b = nI i → m = nI M → inB (nI i) 0 (R 2 - 1) = true → inB (nI M) 0 40 = true → i < 2 ^ 31 → R (52 + 7 * i + 0) = 1 → M ≤ 40 → ∀ d k, k + d = M → ∀ ly w : Int32, s_again M (R (52 + 7 * i + 4)) (R (52 + 7 * i + 2)) = s_again d ly w → Wk l g X kX6_layerAgain PP noX 0 0 67 [some (.ref (A 21)), some (.int (nI i)), some (.int (nI M)), some (.int w), some (.int ly), some (.int (nI k))] [] (mW h A (uI I 5 0) R N) := by
    intro i M hbi hmM a1 a2 hi2 a3 hM d
    subst hbi
    subst hmM
    induction d with
    | zero =>
      intro k hkd ly w he
      have hk : k = M := by omega
      refine k_il5 dX6_layerAgain_67 ?_
      refine k_il2 dX6_layerAgain_69 ?_
      refine k_icmp_ge (tgt := 108) dX6_layerAgain_70 (by decide) (fun c_70 => ?_) (fun c_70 => absurd ((show nI M ≤ nI k by rw [hk]; exact Int32.le_refl _)) c_70)
      refine k_il4 dX6_layerAgain_108 ?_
      exact k_iret dX6_layerAgain_110 rfl rfl (by rw [hPP, show q_layerAgain R (nI i) (nI M) = (0, s_again M (R (52 + 7 * i + 4)) (R (52 + 7 * i + 2))) from (q_fly_4 a1 a2 hi2 a3).trans (by rw [nI_clamp (by omega)]), he]; exact ⟨_, rfl, rfl, rfl⟩)
    | succ d ih =>
      intro k hkd ly w he
      refine k_il5 dX6_layerAgain_67 ?_
      refine k_il2 dX6_layerAgain_69 ?_
      refine k_icmp_ge (tgt := 108) dX6_layerAgain_70 (by decide) (fun c_70 => absurd c_70 (nI_ge (show k < M by omega) (by omega))) (fun c_70 => ?_)
      refine k_il4 dX6_layerAgain_73 ?_
      refine k_if_lt (tgt := 108) dX6_layerAgain_75 (by decide) (fun c_75 => ?_) (fun c_75 => ?_)
      · refine k_il4 dX6_layerAgain_108 ?_
        exact k_iret dX6_layerAgain_110 rfl rfl (by rw [hPP, show q_layerAgain R (nI i) (nI M) = (0, s_again M (R (52 + 7 * i + 4)) (R (52 + 7 * i + 2))) from (q_fly_4 a1 a2 hi2 a3).trans (by rw [nI_clamp (by omega)]), he, s_again_neg c_75]; exact ⟨_, rfl, rfl, rfl⟩)
      · refine k_il3 dX6_layerAgain_78 ?_
        refine k_if_le (tgt := 93) dX6_layerAgain_79 (by decide) (fun c_79 => ?_) (fun c_79 => ?_)
        · refine k_il4 dX6_layerAgain_93 ?_
          refine k_iconst (v := 1) dX6_layerAgain_95 rfl ?_
          refine k_isub dX6_layerAgain_96 ?_
          refine k_is4 dX6_layerAgain_97 (Nat.le_of_ble_eq_true rfl) ?_
          refine k_ic3 (v := (w - 1)) dX6_layerAgain_99 (i_m1 _) (Nat.le_of_ble_eq_true rfl) ?_
          refine k_ic5 (v := nI (k + 1)) dX6_layerAgain_102 (nI_1 k) (Nat.le_of_ble_eq_true rfl) ?_
          refine k_goto (tgt := 67) dX6_layerAgain_105 (by decide) ?_
          exact ih (k + 1) (by omega) _ _ (by rw [he]; simp only [s_again]; rw [if_neg c_75, if_neg (Int32.not_lt.mpr c_79)])
        · refine k_iconst (v := 3) dX6_layerAgain_82 rfl ?_
          refine k_il4 dX6_layerAgain_83 ?_
          refine k_iconst (v := 1) dX6_layerAgain_85 rfl ?_
          refine k_iadd dX6_layerAgain_86 ?_
          refine k_cSI2 csX6_131 dX6_layerAgain_87 (mc_X6_least ht _ _) (Nat.le_of_eq (Nat.zero_add _)) (Nat.le_of_eq (Nat.zero_add _)) (fun r_87 h_87 e_87 => ?_)
          obtain ⟨rfl, rfl⟩ := e_87
          refine k_goto (tgt := 97) dX6_layerAgain_90 (by decide) ?_
          refine k_is4 dX6_layerAgain_97 (Nat.le_of_ble_eq_true rfl) ?_
          refine k_ic3 (v := (w - 1)) dX6_layerAgain_99 (i_m1 _) (Nat.le_of_ble_eq_true rfl) ?_
          refine k_ic5 (v := nI (k + 1)) dX6_layerAgain_102 (nI_1 k) (Nat.le_of_ble_eq_true rfl) ?_
          refine k_goto (tgt := 67) dX6_layerAgain_105 (by decide) ?_
          exact ih (k + 1) (by omega) _ _ (by rw [he]; simp only [s_again]; rw [if_neg c_75, if_pos (Int32.not_le.mp c_79)])
  refine k_al0 dX6_layerAgain_0 ?_
  refine k_iconst (v := 0) dX6_layerAgain_1 rfl ?_
  refine m_p5 hA fpX6_25_5 dX6_layerAgain_2 ?_
  refine k_al0 dX6_layerAgain_5 ?_
  refine k_il1 dX6_layerAgain_6 ?_
  refine k_cVI1 cvX6_158_5 dX6_layerAgain_7 (mc_X6_isBalloon ht hA _) (mW_mo hA) (Nat.le_of_eq (Nat.zero_add _)) (Nat.le_of_eq (Nat.zero_add _)) (fun r_7 h_7 e_7 => ?_)
  obtain ⟨rfl, rfl⟩ := e_7
  refine k_if_ne (tgt := 19) dX6_layerAgain_10 (by decide) (fun c_10 => ?_) (fun c_10 => ?_)
  · have a1 : inB b 0 (R 2 - 1) = true := bI_n0.mp c_10
    obtain ⟨i, hi, rfl⟩ := (inB_cnt (show nB R < 2 ^ 30 by omega)).mp (by rw [← h2]; exact a1)
    refine k_il2 dX6_layerAgain_19 ?_
    refine k_iconst (v := 0) dX6_layerAgain_20 rfl ?_
    refine k_bipush (v := 40) dX6_layerAgain_21 rfl ?_
    refine k_cSI3 csX6_83 dX6_layerAgain_23 (mc_X6_in ht _ _ _) (Nat.le_of_eq (Nat.zero_add _)) (Nat.le_of_eq (Nat.zero_add _)) (fun r_23 h_23 e_23 => ?_)
    obtain ⟨rfl, rfl⟩ := e_23
    refine k_if_ne (tgt := 35) dX6_layerAgain_26 (by decide) (fun c_26 => ?_) (fun c_26 => ?_)
    · have a2 := bI_n0.mp c_26
      refine k_al0 dX6_layerAgain_35 ?_
      refine k_il1 dX6_layerAgain_36 ?_
      refine k_cVI1 cvX6_143_5 dX6_layerAgain_37 (mc_X6_isFlying ht hA (by omega)) (mW_mo hA) (Nat.le_of_eq (Nat.zero_add _)) (Nat.le_of_eq (Nat.zero_add _)) (fun r_37 h_37 e_37 => ?_)
      obtain ⟨rfl, rfl⟩ := e_37
      refine k_if_ne (tgt := 49) dX6_layerAgain_40 (by decide) (fun c_40 => ?_) (fun c_40 => ?_)
      · have a3 := of_decide_eq_true (bI_n0.mp c_40)
        obtain ⟨M, hM, rfl⟩ := inB_nI (n := 40) (by decide) a2
        refine k_al0 dX6_layerAgain_49 ?_
        refine k_il1 dX6_layerAgain_50 ?_
        refine k_iconst (v := 2) dX6_layerAgain_51 rfl ?_
        refine k_cVI2 cvX6_140_5 dX6_layerAgain_52 (mc_X6_bv ht hA (j := 2) (by exact rfl) rfl (by omega) (by decide)) (mW_mo hA) (Nat.le_of_eq (Nat.zero_add _)) (Nat.le_of_eq (Nat.zero_add _)) (fun r_52 h_52 e_52 => ?_)
        obtain ⟨rfl, rfl⟩ := e_52
        refine k_is3 dX6_layerAgain_55 (Nat.le_of_ble_eq_true rfl) ?_
        refine k_al0 dX6_layerAgain_56 ?_
        refine k_il1 dX6_layerAgain_57 ?_
        refine k_iconst (v := 4) dX6_layerAgain_58 rfl ?_
        refine k_cVI2 cvX6_140_5 dX6_layerAgain_59 (mc_X6_bv ht hA (j := 4) (by exact rfl) rfl (by omega) (by decide)) (mW_mo hA) (Nat.le_of_eq (Nat.zero_add _)) (Nat.le_of_eq (Nat.zero_add _)) (fun r_59 h_59 e_59 => ?_)
        obtain ⟨rfl, rfl⟩ := e_59
        refine k_is4 dX6_layerAgain_62 (Nat.le_of_ble_eq_true rfl) ?_
        refine k_iconst (v := 0) dX6_layerAgain_64 rfl ?_
        refine k_is5 dX6_layerAgain_65 (Nat.le_of_ble_eq_true rfl) ?_
        exact loop i M rfl rfl a1 a2 (by omega) a3 hM M 0 (by omega) _ _ rfl
      · refine k_al0 dX6_layerAgain_43 ?_
        refine k_iconst (v := 3) dX6_layerAgain_44 rfl ?_
        refine k_cVI1 cvX6_75_5 dX6_layerAgain_45 (mc_X6_no ht hA _) (mW_mo hA) (Nat.le_of_eq (Nat.zero_add _)) (Nat.le_of_eq (Nat.zero_add _)) (fun r_45 h_45 e_45 => ?_)
        obtain ⟨rfl, rfl⟩ := e_45
        exact k_iret dX6_layerAgain_48 rfl rfl (by rw [hPP, show q_layerAgain R (nI i) m = (3, 0) from q_fly_3 a1 a2 (by omega) (of_decide_eq_false (bI_0.mp (by simpa using c_40)))]; exact ⟨_, rfl, rfl, by first | rfl | rw [uI_uI]⟩)
    · refine k_al0 dX6_layerAgain_29 ?_
      refine k_iconst (v := 2) dX6_layerAgain_30 rfl ?_
      refine k_cVI1 cvX6_75_5 dX6_layerAgain_31 (mc_X6_no ht hA _) (mW_mo hA) (Nat.le_of_eq (Nat.zero_add _)) (Nat.le_of_eq (Nat.zero_add _)) (fun r_31 h_31 e_31 => ?_)
      obtain ⟨rfl, rfl⟩ := e_31
      exact k_iret dX6_layerAgain_34 rfl rfl (by rw [hPP, show q_layerAgain R (nI i) m = (2, 0) from q_fly_2 a1 (bI_0.mp (by simpa using c_26))]; exact ⟨_, rfl, rfl, by first | rfl | rw [uI_uI]⟩)
  · refine k_al0 dX6_layerAgain_13 ?_
    refine k_iconst (v := 1) dX6_layerAgain_14 rfl ?_
    refine k_cVI1 cvX6_75_5 dX6_layerAgain_15 (mc_X6_no ht hA _) (mW_mo hA) (Nat.le_of_eq (Nat.zero_add _)) (Nat.le_of_eq (Nat.zero_add _)) (fun r_15 h_15 e_15 => ?_)
    obtain ⟨rfl, rfl⟩ := e_15
    exact k_iret dX6_layerAgain_18 rfl rfl (by rw [hPP, show q_layerAgain R b m = (1, 0) from q_fly_1 (bI_0.mp (by simpa using c_10))]; exact ⟨_, rfl, rfl, by first | rfl | rw [uI_uI]⟩)
/-- the answer of a query; the row is laid back -/
def mQry2 (q : Qa) (h : hp) (A : Nat → Nat) (I R : Nat → Int32) (N : Nat → Nat → Int32) : pT := pI fun v h' => v = q.2 ∧ ∃ I' R' N', I' 5 = q.1 ∧ (∀ k, k ≠ 5 → k ≠ 7 → k ≠ 8 → I' k = I k) ∧ (∀ j, j < 222 → R' j = R j) ∧ (∀ k, k ≠ 2 → N' k = N k) ∧ h' = mW h A I' R' N'
theorem s_out_s {b n : Nat} {R : Row} (h : R (52 + 7 * b + 0) = 1) : s_out b (n + 1) R = ((s_out b n (s_minute R).1).1 + 1, (s_out b n (s_minute R).1).2) := by simp only [s_out]; rw [if_pos h]
theorem s_out_e {b n : Nat} {R : Row} (h : ¬ R (52 + 7 * b + 0) = 1) : s_out b n R = (0, R) := by
  cases n with
  | zero => rfl
  | succ n => simp only [s_out]; rw [if_neg h]
theorem cpy_back {R R' F : Row} {j : Nat} (h : j < 222) : va_cpy (va_cpy R F 0 0 222) R' 0 0 222 j = R j := by
  simp only [va_cpy]
  rw [if_pos (by omega), if_pos (by omega)]
  congr 1
  omega
theorem fly_left {R : Row} {b : Nat} (h : RI R) (hb : b < nB R) (hs : R (52 + 7 * b + 0) = 1) : ∃ f, R (52 + 7 * b + 6) = nI f ∧ f ≤ 33 := by
  obtain ⟨s, w, f, e0, hs4, -, -, e6, -, -, hf⟩ := h.ba b hb
  rw [hs] at e0
  obtain ⟨q, p, -, -, -, -, h33, -⟩ := hf ((nI_eq (by omega) (by decide)).mp (e0.symm.trans (show (1 : Int32) = nI 1 by decide)))
  exact ⟨f, e6, by omega⟩
theorem mc_X6_would {l : Launch} (ht : l.stackTraces = false) {g : gT} {h : hp} {A : Nat → Nat} (hA : mOK A) {I R : Nat → Int32} {N : Nat → Nat → Int32} (b what : Int32) (h2 : R 2 = nI (nB R)) (h28 : nB R ≤ 20) (hR : RI R) : MM l g yX6_would kX6_would [.ref (A 21), .int b, .int what] (mW h A I R N) (mQry2 (q_would R b what) h A I R N) (noX) (0) (0) := by
  refine MM.of (by decide) rfl rfl rfl (List.forall_mem_cons.mpr ⟨rfl, List.forall_mem_cons.mpr ⟨rfl, List.forall_mem_cons.mpr ⟨rfl, fun _ h => absurd h List.not_mem_nil⟩⟩⟩) (Nat.le_of_ble_eq_true rfl) ht fun X => ?_
  show Wk _ _ _ _ _ _ _ _ _ [some (.ref (A 21)), some (.int b), some (.int what), none, none, none] _ _
  refine Wk.gen fun PP hPP => ?_
  have loop : ∀ i, b = nI i → i < 20 → inB (nI i) 0 (R 2 - 1) = true → inB what 0 2 = true → R (52 + 7 * i + 0) = 1 → ∀ d (R1 I1 : Nat → Int32) (k : Nat) (u : Option Value) (un : Int32), mW78 (uI I 5 0) I1 → RI R1 → i < nB R1 → (R1 (52 + 7 * i + 0) = 1 → ∃ f, R1 (52 + 7 * i + 6) = nI f ∧ 34 < f + d ∧ f ≤ 40) → (s_out i 40 R).1 = k + (s_out i d R1).1 → (s_out i 40 R).2 = (s_out i d R1).2 → Wk l g X kX6_would PP noX 0 0 66 [some (.ref (A 21)), some (.int (nI i)), some (.int what), some (.int (nI k)), some (.int un), u] [] (mW h A I1 R1 (uA N 2 (va_cpy R (N 2) 0 0 222))) := by
    intro i hbi hi20 a1 a2 a3 d
    subst hbi
    induction d using Nat.strongRecOn with
    | ind d ih =>
      intro R1 I1 k u un hI hR1 hb1 hlf hk1 hk2
      refine k_al0 dX6_would_66 ?_
      refine k_il1 dX6_would_67 ?_
      refine k_cVI1 cvX6_143_5 dX6_would_68 (mc_X6_isFlying ht hA (by omega)) (mW_mo hA) (Nat.le_of_eq (Nat.zero_add _)) (Nat.le_of_eq (Nat.zero_add _)) (fun r_68 h_68 e_68 => ?_)
      obtain ⟨rfl, rfl⟩ := e_68
      refine k_if_eq (tgt := 86) dX6_would_71 (by decide) (fun c_71 => ?_) (fun c_71 => ?_)
      · have hnf : ¬ R1 (52 + 7 * i + 0) = 1 := of_decide_eq_false (bI_0.mp c_71)
        have hso : s_out i 40 R = (k, R1) := by rw [show s_out i 40 R = (k + (s_out i d R1).1, (s_out i d R1).2) from Prod.ext hk1 hk2, s_out_e hnf]; rfl
        refine k_il2 dX6_would_86 ?_
        refine k_if_ne (tgt := 94) dX6_would_87 (by decide) (fun c_87 => ?_) (fun c_87 => ?_)
        · refine k_al0 dX6_would_94 ?_
          refine k_il1 dX6_would_95 ?_
          refine k_il2 dX6_would_96 ?_
          refine k_iconst (v := 1) dX6_would_97 rfl ?_
          refine k_icmp_ne (tgt := 105) dX6_would_98 (by decide) (fun c_98 => ?_) (fun c_98 => ?_)
          · refine k_iconst (v := 5) dX6_would_105 rfl ?_
            refine k_cVI2 cvX6_140_5 dX6_would_106 (mc_X6_bv ht hA (r := i) (j := 5) rfl rfl (by omega) (by decide)) (mW_mo hA) (Nat.le_of_eq (Nat.zero_add _)) (Nat.le_of_eq (Nat.zero_add _)) (fun r_106 h_106 e_106 => ?_)
            obtain ⟨rfl, rfl⟩ := e_106
            refine k_is5 dX6_would_109 (Nat.le_of_ble_eq_true rfl) ?_
            refine k_al0 dX6_would_111 ?_
            refine m_g2 hA fgX6_16_5 dX6_would_112 ?_
            refine k_iconst (v := 0) dX6_would_115 rfl ?_
            refine k_al0 dX6_would_116 ?_
            refine m_g0 hA fgX6_7_5 dX6_would_117 ?_
            refine k_iconst (v := 0) dX6_would_120 rfl ?_
            refine k_cSV4 csX6_79 dX6_would_121 (mc_X6_copies ht (s := 0) (t := 0) (mW_ot hA (k := 2) (by decide) (by decide) (by decide)) (mW_no hA) (by decide) (by decide) (by decide) (by decide) (Or.inl (fun e => absurd (hA 2 (by decide) 0 (by decide) e) (by decide)))) (Nat.le_of_eq (Nat.zero_add _)) (Nat.le_of_eq (Nat.zero_add _)) (fun h_121 e_121 => ?_)
            subst e_121
            rw [mW_pn hA]
            refine k_il5 dX6_would_124 ?_
            exact k_iret dX6_would_126 rfl rfl (by rw [hPP, show q_would R (nI i) what = (0, R1 (52 + 7 * i + 5)) from (q_fly_4 a1 a2 (by omega) a3).trans (by simp only [if_neg c_87, if_neg c_98, hso])]; exact ⟨_, rfl, rfl, I1, _, uA N 2 _, by rw [hI 5 (by decide) (by decide)]; simp [uI], (fun k h5 h7 h8 => by rw [hI k h7 h8]; simp [uI, h5]), (fun j hj => by rw [uA_at]; exact cpy_back hj), (fun k h2 => by simp [uA, h2]), rfl⟩)
          · refine k_iconst (v := 0) dX6_would_101 rfl ?_
            refine k_goto (tgt := 106) dX6_would_102 (by decide) ?_
            refine k_cVI2 cvX6_140_5 dX6_would_106 (mc_X6_bv ht hA (r := i) (j := 0) rfl rfl (by omega) (by decide)) (mW_mo hA) (Nat.le_of_eq (Nat.zero_add _)) (Nat.le_of_eq (Nat.zero_add _)) (fun r_106 h_106 e_106 => ?_)
            obtain ⟨rfl, rfl⟩ := e_106
            refine k_is5 dX6_would_109 (Nat.le_of_ble_eq_true rfl) ?_
            refine k_al0 dX6_would_111 ?_
            refine m_g2 hA fgX6_16_5 dX6_would_112 ?_
            refine k_iconst (v := 0) dX6_would_115 rfl ?_
            refine k_al0 dX6_would_116 ?_
            refine m_g0 hA fgX6_7_5 dX6_would_117 ?_
            refine k_iconst (v := 0) dX6_would_120 rfl ?_
            refine k_cSV4 csX6_79 dX6_would_121 (mc_X6_copies ht (s := 0) (t := 0) (mW_ot hA (k := 2) (by decide) (by decide) (by decide)) (mW_no hA) (by decide) (by decide) (by decide) (by decide) (Or.inl (fun e => absurd (hA 2 (by decide) 0 (by decide) e) (by decide)))) (Nat.le_of_eq (Nat.zero_add _)) (Nat.le_of_eq (Nat.zero_add _)) (fun h_121 e_121 => ?_)
            subst e_121
            rw [mW_pn hA]
            refine k_il5 dX6_would_124 ?_
            exact k_iret dX6_would_126 rfl rfl (by rw [hPP, show q_would R (nI i) what = (0, R1 (52 + 7 * i + 0)) from (q_fly_4 a1 a2 (by omega) a3).trans (by simp only [if_neg c_87, if_pos (by simpa using c_98), hso])]; exact ⟨_, rfl, rfl, I1, _, uA N 2 _, by rw [hI 5 (by decide) (by decide)]; simp [uI], (fun k h5 h7 h8 => by rw [hI k h7 h8]; simp [uI, h5]), (fun j hj => by rw [uA_at]; exact cpy_back hj), (fun k h2 => by simp [uA, h2]), rfl⟩)
        · refine k_il3 dX6_would_90 ?_
          refine k_goto (tgt := 109) dX6_would_91 (by decide) ?_
          refine k_is5 dX6_would_109 (Nat.le_of_ble_eq_true rfl) ?_
          refine k_al0 dX6_would_111 ?_
          refine m_g2 hA fgX6_16_5 dX6_would_112 ?_
          refine k_iconst (v := 0) dX6_would_115 rfl ?_
          refine k_al0 dX6_would_116 ?_
          refine m_g0 hA fgX6_7_5 dX6_would_117 ?_
          refine k_iconst (v := 0) dX6_would_120 rfl ?_
          refine k_cSV4 csX6_79 dX6_would_121 (mc_X6_copies ht (s := 0) (t := 0) (mW_ot hA (k := 2) (by decide) (by decide) (by decide)) (mW_no hA) (by decide) (by decide) (by decide) (by decide) (Or.inl (fun e => absurd (hA 2 (by decide) 0 (by decide) e) (by decide)))) (Nat.le_of_eq (Nat.zero_add _)) (Nat.le_of_eq (Nat.zero_add _)) (fun h_121 e_121 => ?_)
          subst e_121
          rw [mW_pn hA]
          refine k_il5 dX6_would_124 ?_
          exact k_iret dX6_would_126 rfl rfl (by rw [hPP, show q_would R (nI i) what = (0, nI k) from (q_fly_4 a1 a2 (by omega) a3).trans (by simp only [if_pos (by simpa using c_87), hso])]; exact ⟨_, rfl, rfl, I1, _, uA N 2 _, by rw [hI 5 (by decide) (by decide)]; simp [uI], (fun k h5 h7 h8 => by rw [hI k h7 h8]; simp [uI, h5]), (fun j hj => by rw [uA_at]; exact cpy_back hj), (fun k h2 => by simp [uA, h2]), rfl⟩)
      · have hfl := of_decide_eq_true (bI_n0.mp c_71)
        obtain ⟨f, hf, hf33, hf40⟩ := hlf hfl
        obtain ⟨f2, hf2, hf4⟩ := fly_left hR1 hb1 hfl
        have hff : f2 = f := (nI_eq (by omega) (by omega)).mp (hf2.symm.trans hf)
        obtain ⟨hm6, hmB⟩ := s_minute_flew hR1 hb1 hfl
        refine k_al0 dX6_would_74 ?_
        refine k_cVI0 cvX6_209_5 dX6_would_75 (mc_X6_goesMinute ht hA hR1) (mW_mo hA) (Nat.le_of_eq (Nat.zero_add _)) (Nat.le_of_eq (Nat.zero_add _)) (fun r_75 h_75 e_75 => ?_)
        obtain ⟨rfl, I2, hI2, rfl⟩ := e_75
        refine k_is4 dX6_would_78 (Nat.le_of_ble_eq_true rfl) ?_
        refine k_ic3 (v := nI (k + 1)) dX6_would_80 (nI_1 k) (Nat.le_of_ble_eq_true rfl) ?_
        refine k_goto (tgt := 66) dX6_would_83 (by decide) ?_
        cases d with
        | zero => exact absurd hf33 (by omega)
        | succ d =>
          rw [s_out_s hfl] at hk1 hk2
          exact ih d (by omega) _ _ _ _ _ (hI.trans hI2) hR1.minute (by omega) (fun _ => ⟨f + 1, by rw [hm6, hf, nI_1], by omega, by omega⟩) (by rw [hk1]; omega) hk2
  refine k_al0 dX6_would_0 ?_
  refine k_iconst (v := 0) dX6_would_1 rfl ?_
  refine m_p5 hA fpX6_25_5 dX6_would_2 ?_
  refine k_al0 dX6_would_5 ?_
  refine k_il1 dX6_would_6 ?_
  refine k_cVI1 cvX6_158_5 dX6_would_7 (mc_X6_isBalloon ht hA _) (mW_mo hA) (Nat.le_of_eq (Nat.zero_add _)) (Nat.le_of_eq (Nat.zero_add _)) (fun r_7 h_7 e_7 => ?_)
  obtain ⟨rfl, rfl⟩ := e_7
  refine k_if_ne (tgt := 19) dX6_would_10 (by decide) (fun c_10 => ?_) (fun c_10 => ?_)
  · have a1 : inB b 0 (R 2 - 1) = true := bI_n0.mp c_10
    obtain ⟨i, hi, rfl⟩ := (inB_cnt (show nB R < 2 ^ 30 by omega)).mp (by rw [← h2]; exact a1)
    refine k_il2 dX6_would_19 ?_
    refine k_iconst (v := 0) dX6_would_20 rfl ?_
    refine k_iconst (v := 2) dX6_would_21 rfl ?_
    refine k_cSI3 csX6_83 dX6_would_22 (mc_X6_in ht _ _ _) (Nat.le_of_eq (Nat.zero_add _)) (Nat.le_of_eq (Nat.zero_add _)) (fun r_22 h_22 e_22 => ?_)
    obtain ⟨rfl, rfl⟩ := e_22
    refine k_if_ne (tgt := 34) dX6_would_25 (by decide) (fun c_25 => ?_) (fun c_25 => ?_)
    · have a2 := bI_n0.mp c_25
      refine k_al0 dX6_would_34 ?_
      refine k_il1 dX6_would_35 ?_
      refine k_cVI1 cvX6_143_5 dX6_would_36 (mc_X6_isFlying ht hA (by omega)) (mW_mo hA) (Nat.le_of_eq (Nat.zero_add _)) (Nat.le_of_eq (Nat.zero_add _)) (fun r_36 h_36 e_36 => ?_)
      obtain ⟨rfl, rfl⟩ := e_36
      refine k_if_ne (tgt := 48) dX6_would_39 (by decide) (fun c_39 => ?_) (fun c_39 => ?_)
      · have a3 := of_decide_eq_true (bI_n0.mp c_39)
        refine k_al0 dX6_would_48 ?_
        refine m_g0 hA fgX6_7_5 dX6_would_49 ?_
        refine k_iconst (v := 0) dX6_would_52 rfl ?_
        refine k_al0 dX6_would_53 ?_
        refine m_g2 hA fgX6_16_5 dX6_would_54 ?_
        refine k_iconst (v := 0) dX6_would_57 rfl ?_
        refine k_cSV4 csX6_79 dX6_would_58 (mc_X6_copies ht (s := 0) (t := 0) (mW_no hA) (mW_ot hA (k := 2) (by decide) (by decide) (by decide)) (by decide) (by decide) (by decide) (by decide) (Or.inl (fun e => absurd (hA 0 (by decide) 2 (by decide) e) (by decide)))) (Nat.le_of_eq (Nat.zero_add _)) (Nat.le_of_eq (Nat.zero_add _)) (fun h_58 e_58 => ?_)
        subst e_58
        rw [mW_pa hA (by decide) (by decide) (by decide)]
        refine k_iconst (v := 0) dX6_would_61 rfl ?_
        refine k_is3 dX6_would_62 (Nat.le_of_ble_eq_true rfl) ?_
        refine k_iconst (v := 0) dX6_would_63 rfl ?_
        refine k_is4 dX6_would_64 (Nat.le_of_ble_eq_true rfl) ?_
        obtain ⟨f, hf, hf33⟩ := fly_left hR hi a3
        exact loop i rfl (by omega) a1 a2 a3 40 R _ 0 none 0 mW78.rfl' hR hi (fun _ => ⟨f, hf, by omega, by omega⟩) (Nat.zero_add _).symm rfl
      · refine k_al0 dX6_would_42 ?_
        refine k_iconst (v := 3) dX6_would_43 rfl ?_
        refine k_cVI1 cvX6_75_5 dX6_would_44 (mc_X6_no ht hA _) (mW_mo hA) (Nat.le_of_eq (Nat.zero_add _)) (Nat.le_of_eq (Nat.zero_add _)) (fun r_44 h_44 e_44 => ?_)
        obtain ⟨rfl, rfl⟩ := e_44
        exact k_iret dX6_would_47 rfl rfl (by rw [hPP, show q_would R (nI i) what = (3, 0) from q_fly_3 a1 a2 (by omega) (of_decide_eq_false (bI_0.mp (by simpa using c_39)))]; exact ⟨_, rfl, rfl, _, R, N, by simp [uI], (fun k h5 _ _ => by simp [uI, h5]), (fun _ _ => rfl), (fun _ _ => rfl), rfl⟩)
    · refine k_al0 dX6_would_28 ?_
      refine k_iconst (v := 2) dX6_would_29 rfl ?_
      refine k_cVI1 cvX6_75_5 dX6_would_30 (mc_X6_no ht hA _) (mW_mo hA) (Nat.le_of_eq (Nat.zero_add _)) (Nat.le_of_eq (Nat.zero_add _)) (fun r_30 h_30 e_30 => ?_)
      obtain ⟨rfl, rfl⟩ := e_30
      exact k_iret dX6_would_33 rfl rfl (by rw [hPP, show q_would R (nI i) what = (2, 0) from q_fly_2 a1 (bI_0.mp (by simpa using c_25))]; exact ⟨_, rfl, rfl, _, R, N, by simp [uI], (fun k h5 _ _ => by simp [uI, h5]), (fun _ _ => rfl), (fun _ _ => rfl), rfl⟩)
  · refine k_al0 dX6_would_13 ?_
    refine k_iconst (v := 1) dX6_would_14 rfl ?_
    refine k_cVI1 cvX6_75_5 dX6_would_15 (mc_X6_no ht hA _) (mW_mo hA) (Nat.le_of_eq (Nat.zero_add _)) (Nat.le_of_eq (Nat.zero_add _)) (fun r_15 h_15 e_15 => ?_)
    obtain ⟨rfl, rfl⟩ := e_15
    exact k_iret dX6_would_18 rfl rfl (by rw [hPP, show q_would R b what = (1, 0) from q_fly_1 (bI_0.mp (by simpa using c_10))]; exact ⟨_, rfl, rfl, _, R, N, by simp [uI], (fun k h5 _ _ => by simp [uI, h5]), (fun _ _ => rfl), (fun _ _ => rfl), rfl⟩)
