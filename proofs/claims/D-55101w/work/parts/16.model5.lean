/-! THE MODEL: contracts of its methods, 5 (printed by tools/mk_model5.py) -/
set_option maxRecDepth 100000
theorem cvX6_146_5 : CVs "TissueBalloonsModel" 146 5 yX6_lb kX6_lb 3 := ⟨⟨TX6, 21, rfl⟩, q3279, q3281, qs46, q100, q3282, ⟨by decide, by decide⟩, rfl⟩
theorem cvX6_149_5 : CVs "TissueBalloonsModel" 149 5 yX6_lc kX6_lc 3 := ⟨⟨TX6, 21, rfl⟩, q3287, q3289, qs47, q100, q3290, ⟨by decide, by decide⟩, rfl⟩
theorem cvX6_152_5 : CVs "TissueBalloonsModel" 152 5 yX6_isCrew kX6_isCrew 1 := ⟨⟨TX6, 21, rfl⟩, q3295, q3297, qs48, q100, q3298, ⟨by decide, by decide⟩, rfl⟩
theorem cvX6_155_5 : CVs "TissueBalloonsModel" 155 5 yX6_cv kX6_cv 2 := ⟨⟨TX6, 21, rfl⟩, q3299, q3301, qs49, q100, q3302, ⟨by decide, by decide⟩, rfl⟩
theorem cvX6_158_5 : CVs "TissueBalloonsModel" 158 5 yX6_isBalloon kX6_isBalloon 1 := ⟨⟨TX6, 21, rfl⟩, q3307, q3309, qs50, q100, q3310, ⟨by decide, by decide⟩, rfl⟩
theorem cvX6_167_5 : CVs "TissueBalloonsModel" 167 5 yX6_pv kX6_pv 2 := ⟨⟨TX6, 21, rfl⟩, q3331, q3333, qs55, q100, q3334, ⟨by decide, by decide⟩, rfl⟩
theorem cvX6_161_5 : CVs "TissueBalloonsModel" 161 5 yX6_isRefusedLaunch kX6_isRefusedLaunch 2 := ⟨⟨TX6, 21, rfl⟩, q3311, q3313, qs51, q100, q3314, ⟨by decide, by decide⟩, rfl⟩
theorem cvX6_164_5 : CVs "TissueBalloonsModel" 164 5 yX6_launches kX6_launches 2 := ⟨⟨TX6, 21, rfl⟩, q3315, q3317, qs52, q100, q3318, ⟨by decide, by decide⟩, rfl⟩
theorem mc_X6_balloon {l : Launch} (ht : l.stackTraces = false) {g : gT} {h : hp} {A : Nat → Nat} (hA : mOK A) {I R : Nat → Int32} {N : Nat → Nat → Int32} (t w g1 : Int32) (h2 : R 2 = nI (nB R)) (h28 : nB R ≤ 20) {c : Nat} (hc : I 6 = nI c) (hc8 : c ≤ 8) : MM l g yX6_balloon kX6_balloon [.ref (A 21), .int t, .int w, .int g1] (mW h A I R N) (mPost (o_balloon R t w g1) h A I R N) (noX) (0) (0) := by
  refine MM.of (by decide) rfl rfl rfl (List.forall_mem_cons.mpr ⟨rfl, List.forall_mem_cons.mpr ⟨rfl, List.forall_mem_cons.mpr ⟨rfl, List.forall_mem_cons.mpr ⟨rfl, fun _ h => absurd h List.not_mem_nil⟩⟩⟩⟩) (Nat.le_of_ble_eq_true rfl) ht fun X => ?_
  show Wk _ _ _ _ _ _ _ _ _ [some (.ref (A 21)), some (.int t), some (.int w), some (.int g1), none] _ _
  refine Wk.gen fun PP hPP => ?_
  have tail : inB t 1 9 = true → inB w 1 30 = true → inB g1 0 9 = true → Wk l g X kX6_balloon PP noX 0 0 40 [some (.ref (A 21)), some (.int t), some (.int w), some (.int g1), none] [] (mW h A (uI I 5 0) R (mBf R N)) := by
    intro a1 a2 a3
    refine k_al0 dX6_balloon_40 ?_
    refine m_g0 hA fgX6_7_5 dX6_balloon_41 ?_
    refine k_iconst (v := 2) dX6_balloon_44 rfl ?_
    refine m_ldn hA dX6_balloon_45 (⟨rfl, by decide⟩ : ixI _ 2) (by decide) ?_
    rw [h2]
    refine k_is4 dX6_balloon_46 (Nat.le_of_ble_eq_true rfl) ?_
    refine k_il4 dX6_balloon_48 ?_
    refine k_bipush (v := 20) dX6_balloon_50 rfl ?_
    refine k_icmp_ne (tgt := 71) dX6_balloon_52 (by decide) (fun c_52 => ?_) (fun c_52 => ?_)
    · have hn : ¬ R 2 = 20 := by rw [h2]; exact c_52
      have hB : nB R < 20 := by
        rcases Nat.lt_or_ge (nB R) 20 with e | e
        · exact e
        · exact absurd (h2.trans (show nI (nB R) = 20 by rw [show nB R = 20 by omega]; decide)) hn
      refine k_al0 dX6_balloon_71 ?_
      refine k_il4 dX6_balloon_72 ?_
      refine k_iconst (v := 0) dX6_balloon_74 rfl ?_
      refine k_iconst (v := 0) dX6_balloon_75 rfl ?_
      refine k_cVV3 cvX6_146_5 dX6_balloon_76 (mc_X6_lb ht hA (by exact rfl) (by exact rfl) (by omega) (by first | decide | omega)) (mW_mo hA) (Nat.le_of_eq (Nat.zero_add _)) (Nat.le_of_eq (Nat.zero_add _)) (fun h_76 e_76 => ?_)
      subst e_76
      refine k_al0 dX6_balloon_79 ?_
      refine k_il4 dX6_balloon_80 ?_
      refine k_iconst (v := 1) dX6_balloon_82 rfl ?_
      refine k_il1 dX6_balloon_83 ?_
      refine k_cVV3 cvX6_146_5 dX6_balloon_84 (mc_X6_lb ht hA (by exact rfl) (by exact rfl) (by omega) (by first | decide | omega)) (mW_mo hA) (Nat.le_of_eq (Nat.zero_add _)) (Nat.le_of_eq (Nat.zero_add _)) (fun h_84 e_84 => ?_)
      subst e_84
      refine k_al0 dX6_balloon_87 ?_
      refine k_il4 dX6_balloon_88 ?_
      refine k_iconst (v := 2) dX6_balloon_90 rfl ?_
      refine k_il2 dX6_balloon_91 ?_
      refine k_cVV3 cvX6_146_5 dX6_balloon_92 (mc_X6_lb ht hA (by exact rfl) (by exact rfl) (by omega) (by first | decide | omega)) (mW_mo hA) (Nat.le_of_eq (Nat.zero_add _)) (Nat.le_of_eq (Nat.zero_add _)) (fun h_92 e_92 => ?_)
      subst e_92
      refine k_al0 dX6_balloon_95 ?_
      refine k_il4 dX6_balloon_96 ?_
      refine k_iconst (v := 3) dX6_balloon_98 rfl ?_
      refine k_il3 dX6_balloon_99 ?_
      refine k_cVV3 cvX6_146_5 dX6_balloon_100 (mc_X6_lb ht hA (by exact rfl) (by exact rfl) (by omega) (by first | decide | omega)) (mW_mo hA) (Nat.le_of_eq (Nat.zero_add _)) (Nat.le_of_eq (Nat.zero_add _)) (fun h_100 e_100 => ?_)
      subst e_100
      refine k_al0 dX6_balloon_103 ?_
      refine k_il4 dX6_balloon_104 ?_
      refine k_iconst (v := 4) dX6_balloon_106 rfl ?_
      refine k_iconst (v := (-1)) dX6_balloon_107 rfl ?_
      refine k_cVV3 cvX6_146_5 dX6_balloon_108 (mc_X6_lb ht hA (by exact rfl) (by exact rfl) (by omega) (by first | decide | omega)) (mW_mo hA) (Nat.le_of_eq (Nat.zero_add _)) (Nat.le_of_eq (Nat.zero_add _)) (fun h_108 e_108 => ?_)
      subst e_108
      refine k_al0 dX6_balloon_111 ?_
      refine k_il4 dX6_balloon_112 ?_
      refine k_iconst (v := 5) dX6_balloon_114 rfl ?_
      refine k_iconst (v := (-1)) dX6_balloon_115 rfl ?_
      refine k_cVV3 cvX6_146_5 dX6_balloon_116 (mc_X6_lb ht hA (by exact rfl) (by exact rfl) (by omega) (by first | decide | omega)) (mW_mo hA) (Nat.le_of_eq (Nat.zero_add _)) (Nat.le_of_eq (Nat.zero_add _)) (fun h_116 e_116 => ?_)
      subst e_116
      refine k_al0 dX6_balloon_119 ?_
      refine k_il4 dX6_balloon_120 ?_
      refine k_bipush (v := 6) dX6_balloon_122 rfl ?_
      refine k_iconst (v := 0) dX6_balloon_124 rfl ?_
      refine k_cVV3 cvX6_146_5 dX6_balloon_125 (mc_X6_lb ht hA (by exact rfl) (by exact rfl) (by omega) (by first | decide | omega)) (mW_mo hA) (Nat.le_of_eq (Nat.zero_add _)) (Nat.le_of_eq (Nat.zero_add _)) (fun h_125 e_125 => ?_)
      subst e_125
      refine k_al0 dX6_balloon_128 ?_
      refine m_g0 hA fgX6_7_5 dX6_balloon_129 ?_
      refine k_iconst (v := 2) dX6_balloon_132 rfl ?_
      refine k_dup2 dX6_balloon_133 ?_
      refine m_ldn hA dX6_balloon_134 (⟨rfl, by decide⟩ : ixI _ 2) (by decide) ?_
      rw [upd_n (by omega), upd_n (by omega), upd_n (by omega), upd_n (by omega), upd_n (by omega), upd_n (by omega), upd_n (by omega)]
      refine k_iconst (v := 1) dX6_balloon_135 rfl ?_
      refine k_iadd dX6_balloon_136 ?_
      refine m_stn hA dX6_balloon_137 (⟨rfl, by decide⟩ : ixI _ 2) (by decide) ?_
      refine k_al0 dX6_balloon_138 ?_
      refine k_il4 dX6_balloon_139 ?_
      refine k_cVI1 cvX6_101_5 dX6_balloon_141 (mc_X6_keeps ht hA _ (c := c) (by simp [uI]; exact hc) hc8) (mW_mo hA) (Nat.le_of_eq (Nat.zero_add _)) (Nat.le_of_eq (Nat.zero_add _)) (fun r_141 h_141 e_141 => ?_)
      exact k_iret dX6_balloon_144 rfl rfl (by obtain ⟨rfl, I', N', hk, rfl⟩ := e_141; rw [hPP, show o_balloon R t w g1 = oOk (nI (nB R)) (s_newBalloon R t w g1) by unfold o_balloon; rw [if_neg (by simp [a1]), if_neg (by simp [a2]), if_neg (by simp [a3]), if_neg hn, ← h2]]; exact ⟨_, rfl, rfl, I', N', mOut_ok hk (by simp [uI]) (fun k h5 h7 h8 _ _ _ => by simp [uI, h5, h7, h8]), rfl⟩)
    · refine k_al0 dX6_balloon_55 ?_
      refine k_iconst (v := 1) dX6_balloon_56 rfl ?_
      refine k_bipush (v := 20) dX6_balloon_57 rfl ?_
      refine k_cVI2 cvX6_113_5 dX6_balloon_59 (mc_X6_isBad ht hA _ _) (mW_mo hA) (Nat.le_of_eq (Nat.zero_add _)) (Nat.le_of_eq (Nat.zero_add _)) (fun r_59 h_59 e_59 => ?_)
      obtain ⟨rfl, rfl⟩ := e_59
      refine k_if_eq (tgt := 71) dX6_balloon_62 (by decide) (fun c_62 => absurd c_62 ((by decide))) (fun c_62 => ?_)
      refine k_al0 dX6_balloon_65 ?_
      refine k_iconst (v := 2) dX6_balloon_66 rfl ?_
      refine k_cVI1 cvX6_117_5 dX6_balloon_67 (mc_X6_refused ht hA _) (mW_mo hA) (Nat.le_of_eq (Nat.zero_add _)) (Nat.le_of_eq (Nat.zero_add _)) (fun r_67 h_67 e_67 => ?_)
      obtain ⟨rfl, rfl⟩ := e_67
      exact k_iret dX6_balloon_70 rfl rfl (by rw [hPP, show o_balloon R t w g1 = oRf 2 1 20 R by unfold o_balloon; rw [if_neg (by simp [a1]), if_neg (by simp [a2]), if_neg (by simp [a3]), if_pos (h2.trans c_52)]]; exact ⟨_, rfl, rfl, _, _, mOut_rf (by decide) (by simp [uI]) (by simp [uI]) (by simp [uI]) (fun k h5 h7 h8 h9 h10 _ _ _ => by simp [uI, h5, h7, h8, h9, h10]), rfl⟩)
  refine k_al0 dX6_balloon_0 ?_
  refine k_cVV0 cvX6_87_5 dX6_balloon_1 (mc_X6_begins ht hA) (mW_mo hA) (Nat.le_of_eq (Nat.zero_add _)) (Nat.le_of_eq (Nat.zero_add _)) (fun h_1 e_1 => ?_)
  subst e_1
  refine k_il1 dX6_balloon_4 ?_
  refine k_iconst (v := 1) dX6_balloon_5 rfl ?_
  refine k_bipush (v := 9) dX6_balloon_6 rfl ?_
  refine k_cSI3 csX6_83 dX6_balloon_8 (mc_X6_in ht _ _ _) (Nat.le_of_eq (Nat.zero_add _)) (Nat.le_of_eq (Nat.zero_add _)) (fun r_8 h_8 e_8 => ?_)
  obtain ⟨rfl, rfl⟩ := e_8
  refine k_if_eq (tgt := 34) dX6_balloon_11 (by decide) (fun c_11 => ?_) (fun c_11 => ?_)
  · refine k_al0 dX6_balloon_34 ?_
    refine k_iconst (v := 1) dX6_balloon_35 rfl ?_
    refine k_cVI1 cvX6_75_5 dX6_balloon_36 (mc_X6_no ht hA _) (mW_mo hA) (Nat.le_of_eq (Nat.zero_add _)) (Nat.le_of_eq (Nat.zero_add _)) (fun r_36 h_36 e_36 => ?_)
    obtain ⟨rfl, rfl⟩ := e_36
    exact k_iret dX6_balloon_39 rfl rfl (by rw [hPP, show o_balloon R t w g1 = oNo 1 R by unfold o_balloon; first | rw [if_pos (bI_0.mp c_11)] | rw [if_neg (by rw [bI_n0.mp c_11]; decide), if_pos (bI_0.mp c_21)] | rw [if_neg (by rw [bI_n0.mp c_11]; decide), if_neg (by rw [bI_n0.mp c_21]; decide), if_pos (bI_0.mp (by simpa using c_31))]]; exact ⟨_, rfl, rfl, _, _, mOut_no (by decide) (by simp [uI]) (fun k h5 h7 h8 _ _ _ => by simp [uI, h5, h7, h8]), rfl⟩)
  · refine k_il2 dX6_balloon_14 ?_
    refine k_iconst (v := 1) dX6_balloon_15 rfl ?_
    refine k_bipush (v := 30) dX6_balloon_16 rfl ?_
    refine k_cSI3 csX6_83 dX6_balloon_18 (mc_X6_in ht _ _ _) (Nat.le_of_eq (Nat.zero_add _)) (Nat.le_of_eq (Nat.zero_add _)) (fun r_18 h_18 e_18 => ?_)
    obtain ⟨rfl, rfl⟩ := e_18
    refine k_if_eq (tgt := 34) dX6_balloon_21 (by decide) (fun c_21 => ?_) (fun c_21 => ?_)
    · refine k_al0 dX6_balloon_34 ?_
      refine k_iconst (v := 1) dX6_balloon_35 rfl ?_
      refine k_cVI1 cvX6_75_5 dX6_balloon_36 (mc_X6_no ht hA _) (mW_mo hA) (Nat.le_of_eq (Nat.zero_add _)) (Nat.le_of_eq (Nat.zero_add _)) (fun r_36 h_36 e_36 => ?_)
      obtain ⟨rfl, rfl⟩ := e_36
      exact k_iret dX6_balloon_39 rfl rfl (by rw [hPP, show o_balloon R t w g1 = oNo 1 R by unfold o_balloon; first | rw [if_pos (bI_0.mp c_11)] | rw [if_neg (by rw [bI_n0.mp c_11]; decide), if_pos (bI_0.mp c_21)] | rw [if_neg (by rw [bI_n0.mp c_11]; decide), if_neg (by rw [bI_n0.mp c_21]; decide), if_pos (bI_0.mp (by simpa using c_31))]]; exact ⟨_, rfl, rfl, _, _, mOut_no (by decide) (by simp [uI]) (fun k h5 h7 h8 _ _ _ => by simp [uI, h5, h7, h8]), rfl⟩)
    · refine k_il3 dX6_balloon_24 ?_
      refine k_iconst (v := 0) dX6_balloon_25 rfl ?_
      refine k_bipush (v := 9) dX6_balloon_26 rfl ?_
      refine k_cSI3 csX6_83 dX6_balloon_28 (mc_X6_in ht _ _ _) (Nat.le_of_eq (Nat.zero_add _)) (Nat.le_of_eq (Nat.zero_add _)) (fun r_28 h_28 e_28 => ?_)
      obtain ⟨rfl, rfl⟩ := e_28
      refine k_if_ne (tgt := 40) dX6_balloon_31 (by decide) (fun c_31 => ?_) (fun c_31 => ?_)
      · exact tail (bI_n0.mp c_11) (bI_n0.mp c_21) (bI_n0.mp c_31)
      · refine k_al0 dX6_balloon_34 ?_
        refine k_iconst (v := 1) dX6_balloon_35 rfl ?_
        refine k_cVI1 cvX6_75_5 dX6_balloon_36 (mc_X6_no ht hA _) (mW_mo hA) (Nat.le_of_eq (Nat.zero_add _)) (Nat.le_of_eq (Nat.zero_add _)) (fun r_36 h_36 e_36 => ?_)
        obtain ⟨rfl, rfl⟩ := e_36
        exact k_iret dX6_balloon_39 rfl rfl (by rw [hPP, show o_balloon R t w g1 = oNo 1 R by unfold o_balloon; first | rw [if_pos (bI_0.mp c_11)] | rw [if_neg (by rw [bI_n0.mp c_11]; decide), if_pos (bI_0.mp c_21)] | rw [if_neg (by rw [bI_n0.mp c_11]; decide), if_neg (by rw [bI_n0.mp c_21]; decide), if_pos (bI_0.mp (by simpa using c_31))]]; exact ⟨_, rfl, rfl, _, _, mOut_no (by decide) (by simp [uI]) (fun k h5 h7 h8 _ _ _ => by simp [uI, h5, h7, h8]), rfl⟩)
theorem mc_X6_crew {l : Launch} (ht : l.stackTraces = false) {g : gT} {h : hp} {A : Nat → Nat} (hA : mOK A) {I R : Nat → Int32} {N : Nat → Nat → Int32} (pl : Int32) (h3 : R 3 = nI (nC R)) (h38 : nC R ≤ 4) {c : Nat} (hc : I 6 = nI c) (hc8 : c ≤ 8) : MM l g yX6_crew kX6_crew [.ref (A 21), .int pl] (mW h A I R N) (mPost (o_crew R pl) h A I R N) (noX) (0) (0) := by
  refine MM.of (by decide) rfl rfl rfl (List.forall_mem_cons.mpr ⟨rfl, List.forall_mem_cons.mpr ⟨rfl, fun _ h => absurd h List.not_mem_nil⟩⟩) (Nat.le_of_ble_eq_true rfl) ht fun X => ?_
  show Wk _ _ _ _ _ _ _ _ _ [some (.ref (A 21)), some (.int pl), none] _ _
  refine Wk.gen fun PP hPP => ?_
  refine k_al0 dX6_crew_0 ?_
  refine k_cVV0 cvX6_87_5 dX6_crew_1 (mc_X6_begins ht hA) (mW_mo hA) (Nat.le_of_eq (Nat.zero_add _)) (Nat.le_of_eq (Nat.zero_add _)) (fun h_1 e_1 => ?_)
  subst e_1
  refine k_il1 dX6_crew_4 ?_
  refine k_cSI1 csX6_107 dX6_crew_5 (mc_X6_isPlace ht _) (Nat.le_of_eq (Nat.zero_add _)) (Nat.le_of_eq (Nat.zero_add _)) (fun r_5 h_5 e_5 => ?_)
  obtain ⟨rfl, rfl⟩ := e_5
  refine k_if_ne (tgt := 17) dX6_crew_8 (by decide) (fun c_8 => ?_) (fun c_8 => ?_)
  · have a1 : inB pl 0 60 = true := bI_n0.mp c_8
    refine k_al0 dX6_crew_17 ?_
    refine m_g0 hA fgX6_7_5 dX6_crew_18 ?_
    refine k_iconst (v := 3) dX6_crew_21 rfl ?_
    refine m_ldn hA dX6_crew_22 (⟨rfl, by decide⟩ : ixI _ 3) (by decide) ?_
    rw [h3]
    refine k_is2 dX6_crew_23 (Nat.le_of_ble_eq_true rfl) ?_
    refine k_il2 dX6_crew_24 ?_
    refine k_iconst (v := 4) dX6_crew_25 rfl ?_
    refine k_icmp_ne (tgt := 44) dX6_crew_26 (by decide) (fun c_26 => ?_) (fun c_26 => ?_)
    · have hn : ¬ R 3 = 4 := by rw [h3]; exact c_26
      have hC : nC R < 4 := by
        rcases Nat.lt_or_ge (nC R) 4 with e | e
        · exact e
        · exact absurd (h3.trans (show nI (nC R) = 4 by rw [show nC R = 4 by omega]; decide)) hn
      refine k_al0 dX6_crew_44 ?_
      refine k_il2 dX6_crew_45 ?_
      refine k_iconst (v := 0) dX6_crew_46 rfl ?_
      refine k_il1 dX6_crew_47 ?_
      refine k_cVV3 cvX6_149_5 dX6_crew_48 (mc_X6_lc ht hA (by exact rfl) (by exact rfl) (by omega) (by first | decide | omega)) (mW_mo hA) (Nat.le_of_eq (Nat.zero_add _)) (Nat.le_of_eq (Nat.zero_add _)) (fun h_48 e_48 => ?_)
      subst e_48
      refine k_al0 dX6_crew_51 ?_
      refine k_il2 dX6_crew_52 ?_
      refine k_iconst (v := 1) dX6_crew_53 rfl ?_
      refine k_iconst (v := 0) dX6_crew_54 rfl ?_
      refine k_cVV3 cvX6_149_5 dX6_crew_55 (mc_X6_lc ht hA (by exact rfl) (by exact rfl) (by omega) (by first | decide | omega)) (mW_mo hA) (Nat.le_of_eq (Nat.zero_add _)) (Nat.le_of_eq (Nat.zero_add _)) (fun h_55 e_55 => ?_)
      subst e_55
      refine k_al0 dX6_crew_58 ?_
      refine k_il2 dX6_crew_59 ?_
      refine k_iconst (v := 2) dX6_crew_60 rfl ?_
      refine k_iconst (v := 0) dX6_crew_61 rfl ?_
      refine k_cVV3 cvX6_149_5 dX6_crew_62 (mc_X6_lc ht hA (by exact rfl) (by exact rfl) (by omega) (by first | decide | omega)) (mW_mo hA) (Nat.le_of_eq (Nat.zero_add _)) (Nat.le_of_eq (Nat.zero_add _)) (fun h_62 e_62 => ?_)
      subst e_62
      refine k_al0 dX6_crew_65 ?_
      refine m_g0 hA fgX6_7_5 dX6_crew_66 ?_
      refine k_iconst (v := 3) dX6_crew_69 rfl ?_
      refine k_dup2 dX6_crew_70 ?_
      refine m_ldn hA dX6_crew_71 (⟨rfl, by decide⟩ : ixI _ 3) (by decide) ?_
      rw [upd_n (by omega), upd_n (by omega), upd_n (by omega)]
      refine k_iconst (v := 1) dX6_crew_72 rfl ?_
      refine k_iadd dX6_crew_73 ?_
      refine m_stn hA dX6_crew_74 (⟨rfl, by decide⟩ : ixI _ 3) (by decide) ?_
      refine k_al0 dX6_crew_75 ?_
      refine k_il2 dX6_crew_76 ?_
      refine k_cVI1 cvX6_101_5 dX6_crew_77 (mc_X6_keeps ht hA _ (c := c) (by simp [uI]; exact hc) hc8) (mW_mo hA) (Nat.le_of_eq (Nat.zero_add _)) (Nat.le_of_eq (Nat.zero_add _)) (fun r_77 h_77 e_77 => ?_)
      exact k_iret dX6_crew_80 rfl rfl (by obtain ⟨rfl, I', N', hk, rfl⟩ := e_77; rw [hPP, show o_crew R pl = oOk (nI (nC R)) (s_newCrew R pl) by unfold o_crew; rw [if_neg (by simp [a1]), if_neg hn, ← h3]]; exact ⟨_, rfl, rfl, I', N', mOut_ok hk (by simp [uI]) (fun k h5 h7 h8 _ _ _ => by simp [uI, h5, h7, h8]), rfl⟩)
    · refine k_al0 dX6_crew_29 ?_
      refine k_iconst (v := 1) dX6_crew_30 rfl ?_
      refine k_iconst (v := 4) dX6_crew_31 rfl ?_
      refine k_cVI2 cvX6_113_5 dX6_crew_32 (mc_X6_isBad ht hA _ _) (mW_mo hA) (Nat.le_of_eq (Nat.zero_add _)) (Nat.le_of_eq (Nat.zero_add _)) (fun r_32 h_32 e_32 => ?_)
      obtain ⟨rfl, rfl⟩ := e_32
      refine k_if_eq (tgt := 44) dX6_crew_35 (by decide) (fun c_35 => absurd c_35 ((by decide))) (fun c_35 => ?_)
      refine k_al0 dX6_crew_38 ?_
      refine k_iconst (v := 2) dX6_crew_39 rfl ?_
      refine k_cVI1 cvX6_117_5 dX6_crew_40 (mc_X6_refused ht hA _) (mW_mo hA) (Nat.le_of_eq (Nat.zero_add _)) (Nat.le_of_eq (Nat.zero_add _)) (fun r_40 h_40 e_40 => ?_)
      obtain ⟨rfl, rfl⟩ := e_40
      exact k_iret dX6_crew_43 rfl rfl (by rw [hPP, show o_crew R pl = oRf 2 1 4 R by unfold o_crew; rw [if_neg (by simp [a1]), if_pos (h3.trans c_26)]]; exact ⟨_, rfl, rfl, _, _, mOut_rf (by decide) (by simp [uI]) (by simp [uI]) (by simp [uI]) (fun k h5 h7 h8 h9 h10 _ _ _ => by simp [uI, h5, h7, h8, h9, h10]), rfl⟩)
  · refine k_al0 dX6_crew_11 ?_
    refine k_iconst (v := 1) dX6_crew_12 rfl ?_
    refine k_cVI1 cvX6_75_5 dX6_crew_13 (mc_X6_no ht hA _) (mW_mo hA) (Nat.le_of_eq (Nat.zero_add _)) (Nat.le_of_eq (Nat.zero_add _)) (fun r_13 h_13 e_13 => ?_)
    obtain ⟨rfl, rfl⟩ := e_13
    exact k_iret dX6_crew_16 rfl rfl (by rw [hPP, show o_crew R pl = oNo 1 R by unfold o_crew; rw [if_pos (bI_0.mp (by simpa using c_8))]]; exact ⟨_, rfl, rfl, _, _, mOut_no (by decide) (by simp [uI]) (fun k h5 h7 h8 _ _ _ => by simp [uI, h5, h7, h8]), rfl⟩)
theorem mc_X6_crewOf {l : Launch} (ht : l.stackTraces = false) {g : gT} {h : hp} {A : Nat → Nat} (hA : mOK A) {I R : Nat → Int32} {N : Nat → Nat → Int32} (b what : Int32) (h3 : R 3 = nI (nC R)) (h38 : nC R ≤ 4) : MM l g yX6_crewOf kX6_crewOf [.ref (A 21), .int b, .int what] (mW h A I R N) (mQry (q_crewOf R b what) h A I R N) (noX) (0) (0) := by
  refine MM.of (by decide) rfl rfl rfl (List.forall_mem_cons.mpr ⟨rfl, List.forall_mem_cons.mpr ⟨rfl, List.forall_mem_cons.mpr ⟨rfl, fun _ h => absurd h List.not_mem_nil⟩⟩⟩) (Nat.le_of_ble_eq_true rfl) ht fun X => ?_
  show Wk _ _ _ _ _ _ _ _ _ [some (.ref (A 21)), some (.int b), some (.int what)] _ _
  refine Wk.gen fun PP hPP => ?_
  refine k_al0 dX6_crewOf_0 ?_
  refine k_iconst (v := 0) dX6_crewOf_1 rfl ?_
  refine m_p5 hA fpX6_25_5 dX6_crewOf_2 ?_
  refine k_al0 dX6_crewOf_5 ?_
  refine k_il1 dX6_crewOf_6 ?_
  refine k_cVI1 cvX6_152_5 dX6_crewOf_7 (mc_X6_isCrew ht hA _) (mW_mo hA) (Nat.le_of_eq (Nat.zero_add _)) (Nat.le_of_eq (Nat.zero_add _)) (fun r_7 h_7 e_7 => ?_)
  obtain ⟨rfl, rfl⟩ := e_7
  refine k_if_ne (tgt := 19) dX6_crewOf_10 (by decide) (fun c_10 => ?_) (fun c_10 => ?_)
  · have a1 : inB b 0 (R 3 - 1) = true := bI_n0.mp c_10
    obtain ⟨i, hi, rfl⟩ := (inB_cnt (show nC R < 2 ^ 30 by omega)).mp (by rw [← h3]; exact a1)
    refine k_il2 dX6_crewOf_19 ?_
    refine k_iconst (v := 0) dX6_crewOf_20 rfl ?_
    refine k_iconst (v := 2) dX6_crewOf_21 rfl ?_
    refine k_cSI3 csX6_83 dX6_crewOf_22 (mc_X6_in ht _ _ _) (Nat.le_of_eq (Nat.zero_add _)) (Nat.le_of_eq (Nat.zero_add _)) (fun r_22 h_22 e_22 => ?_)
    obtain ⟨rfl, rfl⟩ := e_22
    refine k_if_eq (tgt := 37) dX6_crewOf_25 (by decide) (fun c_25 => ?_) (fun c_25 => ?_)
    · refine k_al0 dX6_crewOf_37 ?_
      refine k_iconst (v := 2) dX6_crewOf_38 rfl ?_
      refine k_cVI1 cvX6_75_5 dX6_crewOf_39 (mc_X6_no ht hA _) (mW_mo hA) (Nat.le_of_eq (Nat.zero_add _)) (Nat.le_of_eq (Nat.zero_add _)) (fun r_39 h_39 e_39 => ?_)
      obtain ⟨rfl, rfl⟩ := e_39
      exact k_iret dX6_crewOf_42 rfl rfl (by rw [hPP, show q_crewOf R (nI i) what = (2, 0) from (by unfold q_crewOf; rw [if_neg (by rw [a1]; decide), if_neg (by rw [bI_0.mp c_25]; decide)])]; exact ⟨_, rfl, rfl, by first | rfl | rw [uI_uI]⟩)
    · have a2 : inB what 0 2 = true := bI_n0.mp c_25
      obtain ⟨w, hw, rfl⟩ := inB_nI (n := 2) (by decide) a2
      refine k_al0 dX6_crewOf_28 ?_
      refine k_il1 dX6_crewOf_29 ?_
      refine k_il2 dX6_crewOf_30 ?_
      refine k_cVI2 cvX6_155_5 dX6_crewOf_31 (mc_X6_cv ht hA (by exact rfl) (by exact rfl) (by omega) (by first | decide | omega)) (mW_mo hA) (Nat.le_of_eq (Nat.zero_add _)) (Nat.le_of_eq (Nat.zero_add _)) (fun r_31 h_31 e_31 => ?_)
      obtain ⟨rfl, rfl⟩ := e_31
      refine k_goto (tgt := 42) dX6_crewOf_34 (by decide) ?_
      exact k_iret dX6_crewOf_42 rfl rfl (by rw [hPP, show q_crewOf R (nI i) (nI w) = (0, R (192 + 3 * i + w)) from (by unfold q_crewOf; rw [if_neg (by rw [a1]; decide), if_pos a2, nI_clamp (by omega), nI_clamp (by omega)])]; exact ⟨_, rfl, rfl, by first | rfl | rw [uI_uI]⟩)
  · refine k_al0 dX6_crewOf_13 ?_
    refine k_iconst (v := 1) dX6_crewOf_14 rfl ?_
    refine k_cVI1 cvX6_75_5 dX6_crewOf_15 (mc_X6_no ht hA _) (mW_mo hA) (Nat.le_of_eq (Nat.zero_add _)) (Nat.le_of_eq (Nat.zero_add _)) (fun r_15 h_15 e_15 => ?_)
    obtain ⟨rfl, rfl⟩ := e_15
    exact k_iret dX6_crewOf_18 rfl rfl (by rw [hPP, show q_crewOf R b what = (1, 0) from (by unfold q_crewOf; rw [if_pos (bI_0.mp (by simpa using c_10))])]; exact ⟨_, rfl, rfl, by first | rfl | rw [uI_uI]⟩)
theorem mc_X6_balloonOf {l : Launch} (ht : l.stackTraces = false) {g : gT} {h : hp} {A : Nat → Nat} (hA : mOK A) {I R : Nat → Int32} {N : Nat → Nat → Int32} (b what : Int32) (h2 : R 2 = nI (nB R)) (h28 : nB R ≤ 20) : MM l g yX6_balloonOf kX6_balloonOf [.ref (A 21), .int b, .int what] (mW h A I R N) (mQry (q_balloonOf R b what) h A I R N) (noX) (0) (0) := by
  refine MM.of (by decide) rfl rfl rfl (List.forall_mem_cons.mpr ⟨rfl, List.forall_mem_cons.mpr ⟨rfl, List.forall_mem_cons.mpr ⟨rfl, fun _ h => absurd h List.not_mem_nil⟩⟩⟩) (Nat.le_of_ble_eq_true rfl) ht fun X => ?_
  show Wk _ _ _ _ _ _ _ _ _ [some (.ref (A 21)), some (.int b), some (.int what)] _ _
  refine Wk.gen fun PP hPP => ?_
  refine k_al0 dX6_balloonOf_0 ?_
  refine k_iconst (v := 0) dX6_balloonOf_1 rfl ?_
  refine m_p5 hA fpX6_25_5 dX6_balloonOf_2 ?_
  refine k_al0 dX6_balloonOf_5 ?_
  refine k_il1 dX6_balloonOf_6 ?_
  refine k_cVI1 cvX6_158_5 dX6_balloonOf_7 (mc_X6_isBalloon ht hA _) (mW_mo hA) (Nat.le_of_eq (Nat.zero_add _)) (Nat.le_of_eq (Nat.zero_add _)) (fun r_7 h_7 e_7 => ?_)
  obtain ⟨rfl, rfl⟩ := e_7
  refine k_if_ne (tgt := 19) dX6_balloonOf_10 (by decide) (fun c_10 => ?_) (fun c_10 => ?_)
  · have a1 : inB b 0 (R 2 - 1) = true := bI_n0.mp c_10
    obtain ⟨i, hi, rfl⟩ := (inB_cnt (show nB R < 2 ^ 30 by omega)).mp (by rw [← h2]; exact a1)
    refine k_il2 dX6_balloonOf_19 ?_
    refine k_iconst (v := 0) dX6_balloonOf_20 rfl ?_
    refine k_bipush (v := 6) dX6_balloonOf_21 rfl ?_
    refine k_cSI3 csX6_83 dX6_balloonOf_23 (mc_X6_in ht _ _ _) (Nat.le_of_eq (Nat.zero_add _)) (Nat.le_of_eq (Nat.zero_add _)) (fun r_23 h_23 e_23 => ?_)
    obtain ⟨rfl, rfl⟩ := e_23
    refine k_if_eq (tgt := 38) dX6_balloonOf_26 (by decide) (fun c_26 => ?_) (fun c_26 => ?_)
    · refine k_al0 dX6_balloonOf_38 ?_
      refine k_iconst (v := 2) dX6_balloonOf_39 rfl ?_
      refine k_cVI1 cvX6_75_5 dX6_balloonOf_40 (mc_X6_no ht hA _) (mW_mo hA) (Nat.le_of_eq (Nat.zero_add _)) (Nat.le_of_eq (Nat.zero_add _)) (fun r_40 h_40 e_40 => ?_)
      obtain ⟨rfl, rfl⟩ := e_40
      exact k_iret dX6_balloonOf_43 rfl rfl (by rw [hPP, show q_balloonOf R (nI i) what = (2, 0) from (by unfold q_balloonOf; rw [if_neg (by rw [a1]; decide), if_neg (by rw [bI_0.mp c_26]; decide)])]; exact ⟨_, rfl, rfl, by first | rfl | rw [uI_uI]⟩)
    · have a2 : inB what 0 6 = true := bI_n0.mp c_26
      obtain ⟨w, hw, rfl⟩ := inB_nI (n := 6) (by decide) a2
      refine k_al0 dX6_balloonOf_29 ?_
      refine k_il1 dX6_balloonOf_30 ?_
      refine k_il2 dX6_balloonOf_31 ?_
      refine k_cVI2 cvX6_140_5 dX6_balloonOf_32 (mc_X6_bv ht hA (by exact rfl) (by exact rfl) (by omega) (by first | decide | omega)) (mW_mo hA) (Nat.le_of_eq (Nat.zero_add _)) (Nat.le_of_eq (Nat.zero_add _)) (fun r_32 h_32 e_32 => ?_)
      obtain ⟨rfl, rfl⟩ := e_32
      refine k_goto (tgt := 43) dX6_balloonOf_35 (by decide) ?_
      exact k_iret dX6_balloonOf_43 rfl rfl (by rw [hPP, show q_balloonOf R (nI i) (nI w) = (0, R (52 + 7 * i + w)) from (by unfold q_balloonOf; rw [if_neg (by rw [a1]; decide), if_pos a2, nI_clamp (by omega), nI_clamp (by omega)])]; exact ⟨_, rfl, rfl, by first | rfl | rw [uI_uI]⟩)
  · refine k_al0 dX6_balloonOf_13 ?_
    refine k_iconst (v := 1) dX6_balloonOf_14 rfl ?_
    refine k_cVI1 cvX6_75_5 dX6_balloonOf_15 (mc_X6_no ht hA _) (mW_mo hA) (Nat.le_of_eq (Nat.zero_add _)) (Nat.le_of_eq (Nat.zero_add _)) (fun r_15 h_15 e_15 => ?_)
    obtain ⟨rfl, rfl⟩ := e_15
    exact k_iret dX6_balloonOf_18 rfl rfl (by rw [hPP, show q_balloonOf R b what = (1, 0) from (by unfold q_balloonOf; rw [if_pos (bI_0.mp (by simpa using c_10))])]; exact ⟨_, rfl, rfl, by first | rfl | rw [uI_uI]⟩)
theorem mc_X6_planAt {l : Launch} (ht : l.stackTraces = false) {g : gT} {h : hp} {A : Nat → Nat} (hA : mOK A) {I R : Nat → Int32} {N : Nat → Nat → Int32} (b what : Int32) (h4 : R 4 = nI (nP R)) (h48 : nP R ≤ 6) : MM l g yX6_planAt kX6_planAt [.ref (A 21), .int b, .int what] (mW h A I R N) (mQry (q_planAt R b what) h A I R N) (noX) (0) (0) := by
  refine MM.of (by decide) rfl rfl rfl (List.forall_mem_cons.mpr ⟨rfl, List.forall_mem_cons.mpr ⟨rfl, List.forall_mem_cons.mpr ⟨rfl, fun _ h => absurd h List.not_mem_nil⟩⟩⟩) (Nat.le_of_ble_eq_true rfl) ht fun X => ?_
  show Wk _ _ _ _ _ _ _ _ _ [some (.ref (A 21)), some (.int b), some (.int what)] _ _
  refine Wk.gen fun PP hPP => ?_
  refine k_al0 dX6_planAt_0 ?_
  refine k_iconst (v := 0) dX6_planAt_1 rfl ?_
  refine m_p5 hA fpX6_25_5 dX6_planAt_2 ?_
  refine k_il1 dX6_planAt_5 ?_
  refine k_iconst (v := 0) dX6_planAt_6 rfl ?_
  refine k_al0 dX6_planAt_7 ?_
  refine m_g0 hA fgX6_7_5 dX6_planAt_8 ?_
  refine k_iconst (v := 4) dX6_planAt_11 rfl ?_
  refine m_ldn hA dX6_planAt_12 (⟨rfl, by decide⟩ : ixI _ 4) (by decide) ?_
  refine k_iconst (v := 1) dX6_planAt_13 rfl ?_
  refine k_isub dX6_planAt_14 ?_
  refine k_cSI3 csX6_83 dX6_planAt_15 (mc_X6_in ht _ _ _) (Nat.le_of_eq (Nat.zero_add _)) (Nat.le_of_eq (Nat.zero_add _)) (fun r_15 h_15 e_15 => ?_)
  obtain ⟨rfl, rfl⟩ := e_15
  refine k_if_ne (tgt := 27) dX6_planAt_18 (by decide) (fun c_18 => ?_) (fun c_18 => ?_)
  · have a1 : inB b 0 (R 4 - 1) = true := bI_n0.mp c_18
    obtain ⟨i, hi, rfl⟩ := (inB_cnt (show nP R < 2 ^ 30 by omega)).mp (by rw [← h4]; exact a1)
    refine k_il2 dX6_planAt_27 ?_
    refine k_iconst (v := 0) dX6_planAt_28 rfl ?_
    refine k_iconst (v := 2) dX6_planAt_29 rfl ?_
    refine k_cSI3 csX6_83 dX6_planAt_30 (mc_X6_in ht _ _ _) (Nat.le_of_eq (Nat.zero_add _)) (Nat.le_of_eq (Nat.zero_add _)) (fun r_30 h_30 e_30 => ?_)
    obtain ⟨rfl, rfl⟩ := e_30
    refine k_if_eq (tgt := 45) dX6_planAt_33 (by decide) (fun c_33 => ?_) (fun c_33 => ?_)
    · refine k_al0 dX6_planAt_45 ?_
      refine k_iconst (v := 2) dX6_planAt_46 rfl ?_
      refine k_cVI1 cvX6_75_5 dX6_planAt_47 (mc_X6_no ht hA _) (mW_mo hA) (Nat.le_of_eq (Nat.zero_add _)) (Nat.le_of_eq (Nat.zero_add _)) (fun r_47 h_47 e_47 => ?_)
      obtain ⟨rfl, rfl⟩ := e_47
      exact k_iret dX6_planAt_50 rfl rfl (by rw [hPP, show q_planAt R (nI i) what = (2, 0) from (by unfold q_planAt; rw [if_neg (by rw [a1]; decide), if_neg (by rw [bI_0.mp c_33]; decide)])]; exact ⟨_, rfl, rfl, by first | rfl | rw [uI_uI]⟩)
    · have a2 : inB what 0 2 = true := bI_n0.mp c_33
      obtain ⟨w, hw, rfl⟩ := inB_nI (n := 2) (by decide) a2
      refine k_al0 dX6_planAt_36 ?_
      refine k_il1 dX6_planAt_37 ?_
      refine k_il2 dX6_planAt_38 ?_
      refine k_cVI2 cvX6_167_5 dX6_planAt_39 (mc_X6_pv ht hA (by exact rfl) (by exact rfl) (by omega) (by first | decide | omega)) (mW_mo hA) (Nat.le_of_eq (Nat.zero_add _)) (Nat.le_of_eq (Nat.zero_add _)) (fun r_39 h_39 e_39 => ?_)
      obtain ⟨rfl, rfl⟩ := e_39
      refine k_goto (tgt := 50) dX6_planAt_42 (by decide) ?_
      exact k_iret dX6_planAt_50 rfl rfl (by rw [hPP, show q_planAt R (nI i) (nI w) = (0, R (204 + 3 * i + w)) from (by unfold q_planAt; rw [if_neg (by rw [a1]; decide), if_pos a2, nI_clamp (by omega), nI_clamp (by omega)])]; exact ⟨_, rfl, rfl, by first | rfl | rw [uI_uI]⟩)
  · refine k_al0 dX6_planAt_21 ?_
    refine k_iconst (v := 1) dX6_planAt_22 rfl ?_
    refine k_cVI1 cvX6_75_5 dX6_planAt_23 (mc_X6_no ht hA _) (mW_mo hA) (Nat.le_of_eq (Nat.zero_add _)) (Nat.le_of_eq (Nat.zero_add _)) (fun r_23 h_23 e_23 => ?_)
    obtain ⟨rfl, rfl⟩ := e_23
    exact k_iret dX6_planAt_26 rfl rfl (by rw [hPP, show q_planAt R b what = (1, 0) from (by unfold q_planAt; rw [if_pos (bI_0.mp (by simpa using c_18))])]; exact ⟨_, rfl, rfl, by first | rfl | rw [uI_uI]⟩)
/-- why something is refused, noted -/
def mWhy (I : Nat → Int32) : Option (Int32 × Int32) → Nat → Int32
  | some w => uI (uI I 7 w.1) 8 w.2
  | none => I
theorem mWhy_n {I : Nat → Int32} {o : Option (Int32 × Int32)} {k : Nat} (h7 : k ≠ 7) (h8 : k ≠ 8) : mWhy I o k = I k := by
  cases o with
  | none => rfl
  | some w => simp [mWhy, uI, h7, h8]
theorem mWhy_7 {I : Nat → Int32} {w : Int32 × Int32} : mWhy I (some w) 7 = w.1 ∧ mWhy I (some w) 8 = w.2 := by simp [mWhy, uI]
theorem mc_X6_isRefusedLaunch {l : Launch} (ht : l.stackTraces = false) {g : gT} {h : hp} {A : Nat → Nat} (hA : mOK A) {I R : Nat → Int32} {N : Nat → Nat → Int32} {b c : Nat} (hb : b < 20) (hc4 : c < 4) : MM l g yX6_isRefusedLaunch kX6_isRefusedLaunch [.ref (A 21), .int (nI b), .int (nI c)] (mW h A I R N) (pI fun v_ h' => v_ = bI (s_refL R b c).isSome ∧ h' = mW h A (mWhy I (s_refL R b c)) R N) (noX) (0) (0) := by
  refine MM.of (by decide) rfl rfl rfl (List.forall_mem_cons.mpr ⟨rfl, List.forall_mem_cons.mpr ⟨rfl, List.forall_mem_cons.mpr ⟨rfl, fun _ h => absurd h List.not_mem_nil⟩⟩⟩) (Nat.le_of_ble_eq_true rfl) ht fun X => ?_
  show Wk _ _ _ _ _ _ _ _ _ [some (.ref (A 21)), some (.int (nI b)), some (.int (nI c))] _ _
  refine Wk.gen fun PP hPP => ?_
  refine k_al0 dX6_isRefusedLaunch_0 ?_
  refine k_il1 dX6_isRefusedLaunch_1 ?_
  refine k_iconst (v := 0) dX6_isRefusedLaunch_2 rfl ?_
  refine k_cVI2 cvX6_140_5 dX6_isRefusedLaunch_3 (mc_X6_bv ht hA (by exact rfl) (by exact rfl) (by omega) (by first | decide | omega)) (mW_mo hA) (Nat.le_of_eq (Nat.zero_add _)) (Nat.le_of_eq (Nat.zero_add _)) (fun r_3 h_3 e_3 => ?_)
  obtain ⟨rfl, rfl⟩ := e_3
  refine k_if_eq (tgt := 21) dX6_isRefusedLaunch_6 (by decide) (fun c_6 => ?_) (fun c_6 => ?_)
  · refine k_al0 dX6_isRefusedLaunch_21 ?_
    refine k_il2 dX6_isRefusedLaunch_22 ?_
    refine k_iconst (v := 1) dX6_isRefusedLaunch_23 rfl ?_
    refine k_cVI2 cvX6_155_5 dX6_isRefusedLaunch_24 (mc_X6_cv ht hA (by exact rfl) (by exact rfl) (by omega) (by first | decide | omega)) (mW_mo hA) (Nat.le_of_eq (Nat.zero_add _)) (Nat.le_of_eq (Nat.zero_add _)) (fun r_24 h_24 e_24 => ?_)
    obtain ⟨rfl, rfl⟩ := e_24
    refine k_if_le (tgt := 42) dX6_isRefusedLaunch_27 (by decide) (fun c_27 => ?_) (fun c_27 => ?_)
    · refine k_al0 dX6_isRefusedLaunch_42 ?_
      refine m_g0 hA fgX6_7_5 dX6_isRefusedLaunch_43 ?_
      refine k_bipush (v := 8) dX6_isRefusedLaunch_46 rfl ?_
      refine m_ldn hA dX6_isRefusedLaunch_48 (⟨rfl, by decide⟩ : ixI _ 8) (by decide) ?_
      refine k_iconst (v := 3) dX6_isRefusedLaunch_49 rfl ?_
      refine k_icmp_eq (tgt := 65) dX6_isRefusedLaunch_50 (by decide) (fun c_50 => ?_) (fun c_50 => ?_)
      · refine k_al0 dX6_isRefusedLaunch_65 ?_
        refine k_iconst (v := 5) dX6_isRefusedLaunch_66 rfl ?_
        refine k_al0 dX6_isRefusedLaunch_67 ?_
        refine m_g0 hA fgX6_7_5 dX6_isRefusedLaunch_68 ?_
        refine k_bipush (v := 8) dX6_isRefusedLaunch_71 rfl ?_
        refine m_ldn hA dX6_isRefusedLaunch_73 (⟨rfl, by decide⟩ : ixI _ 8) (by decide) ?_
        refine k_cVI2 cvX6_113_5 dX6_isRefusedLaunch_74 (mc_X6_isBad ht hA _ _) (mW_mo hA) (Nat.le_of_eq (Nat.zero_add _)) (Nat.le_of_eq (Nat.zero_add _)) (fun r_74 h_74 e_74 => ?_)
        obtain ⟨rfl, rfl⟩ := e_74
        refine k_if_eq (tgt := 84) dX6_isRefusedLaunch_77 (by decide) (fun c_77 => absurd c_77 ((by decide))) (fun c_77 => ?_)
        refine k_iconst (v := 1) dX6_isRefusedLaunch_80 rfl ?_
        refine k_goto (tgt := 85) dX6_isRefusedLaunch_81 (by decide) ?_
        exact k_iret dX6_isRefusedLaunch_85 rfl rfl (by rw [hPP, show s_refL R b c = some (5, R 8) by unfold s_refL; rw [if_neg (by simpa using c_6), if_neg (Int32.not_lt.mpr c_27), if_pos (by first | exact Or.inl c_50 | exact Or.inr (by simpa using c_62))]]; exact ⟨_, rfl, rfl, rfl⟩)
      · refine k_al0 dX6_isRefusedLaunch_53 ?_
        refine m_g0 hA fgX6_7_5 dX6_isRefusedLaunch_54 ?_
        refine k_bipush (v := 8) dX6_isRefusedLaunch_57 rfl ?_
        refine m_ldn hA dX6_isRefusedLaunch_59 (⟨rfl, by decide⟩ : ixI _ 8) (by decide) ?_
        refine k_bipush (v := (-3)) dX6_isRefusedLaunch_60 rfl ?_
        refine k_icmp_ne (tgt := 84) dX6_isRefusedLaunch_62 (by decide) (fun c_62 => ?_) (fun c_62 => ?_)
        · refine k_iconst (v := 0) dX6_isRefusedLaunch_84 rfl ?_
          exact k_iret dX6_isRefusedLaunch_85 rfl rfl (by rw [hPP, show s_refL R b c = none by unfold s_refL; rw [if_neg (by simpa using c_6), if_neg (Int32.not_lt.mpr c_27), if_neg (by rintro (e | e); exact c_50 e; exact c_62 e)]]; exact ⟨_, rfl, rfl, rfl⟩)
        · refine k_al0 dX6_isRefusedLaunch_65 ?_
          refine k_iconst (v := 5) dX6_isRefusedLaunch_66 rfl ?_
          refine k_al0 dX6_isRefusedLaunch_67 ?_
          refine m_g0 hA fgX6_7_5 dX6_isRefusedLaunch_68 ?_
          refine k_bipush (v := 8) dX6_isRefusedLaunch_71 rfl ?_
          refine m_ldn hA dX6_isRefusedLaunch_73 (⟨rfl, by decide⟩ : ixI _ 8) (by decide) ?_
          refine k_cVI2 cvX6_113_5 dX6_isRefusedLaunch_74 (mc_X6_isBad ht hA _ _) (mW_mo hA) (Nat.le_of_eq (Nat.zero_add _)) (Nat.le_of_eq (Nat.zero_add _)) (fun r_74 h_74 e_74 => ?_)
          obtain ⟨rfl, rfl⟩ := e_74
          refine k_if_eq (tgt := 84) dX6_isRefusedLaunch_77 (by decide) (fun c_77 => absurd c_77 ((by decide))) (fun c_77 => ?_)
          refine k_iconst (v := 1) dX6_isRefusedLaunch_80 rfl ?_
          refine k_goto (tgt := 85) dX6_isRefusedLaunch_81 (by decide) ?_
          exact k_iret dX6_isRefusedLaunch_85 rfl rfl (by rw [hPP, show s_refL R b c = some (5, R 8) by unfold s_refL; rw [if_neg (by simpa using c_6), if_neg (Int32.not_lt.mpr c_27), if_pos (by first | exact Or.inl c_50 | exact Or.inr (by simpa using c_62))]]; exact ⟨_, rfl, rfl, rfl⟩)
    · refine k_al0 dX6_isRefusedLaunch_30 ?_
      refine k_iconst (v := 4) dX6_isRefusedLaunch_31 rfl ?_
      refine k_al0 dX6_isRefusedLaunch_32 ?_
      refine k_il2 dX6_isRefusedLaunch_33 ?_
      refine k_iconst (v := 1) dX6_isRefusedLaunch_34 rfl ?_
      refine k_cVI2 cvX6_155_5 dX6_isRefusedLaunch_35 (mc_X6_cv ht hA (by exact rfl) (by exact rfl) (by omega) (by first | decide | omega)) (mW_mo hA) (Nat.le_of_eq (Nat.zero_add _)) (Nat.le_of_eq (Nat.zero_add _)) (fun r_35 h_35 e_35 => ?_)
      obtain ⟨rfl, rfl⟩ := e_35
      refine k_cVI2 cvX6_113_5 dX6_isRefusedLaunch_38 (mc_X6_isBad ht hA _ _) (mW_mo hA) (Nat.le_of_eq (Nat.zero_add _)) (Nat.le_of_eq (Nat.zero_add _)) (fun r_38 h_38 e_38 => ?_)
      obtain ⟨rfl, rfl⟩ := e_38
      exact k_iret dX6_isRefusedLaunch_41 rfl rfl (by rw [hPP, show s_refL R b c = some (4, R (192 + 3 * c + 1)) by unfold s_refL; rw [if_neg (by simpa using c_6), if_pos (Int32.not_le.mp c_27)]]; exact ⟨_, rfl, rfl, rfl⟩)
  · refine k_al0 dX6_isRefusedLaunch_9 ?_
    refine k_iconst (v := 3) dX6_isRefusedLaunch_10 rfl ?_
    refine k_al0 dX6_isRefusedLaunch_11 ?_
    refine k_il1 dX6_isRefusedLaunch_12 ?_
    refine k_iconst (v := 0) dX6_isRefusedLaunch_13 rfl ?_
    refine k_cVI2 cvX6_140_5 dX6_isRefusedLaunch_14 (mc_X6_bv ht hA (by exact rfl) (by exact rfl) (by omega) (by first | decide | omega)) (mW_mo hA) (Nat.le_of_eq (Nat.zero_add _)) (Nat.le_of_eq (Nat.zero_add _)) (fun r_14 h_14 e_14 => ?_)
    obtain ⟨rfl, rfl⟩ := e_14
    refine k_cVI2 cvX6_113_5 dX6_isRefusedLaunch_17 (mc_X6_isBad ht hA _ _) (mW_mo hA) (Nat.le_of_eq (Nat.zero_add _)) (Nat.le_of_eq (Nat.zero_add _)) (fun r_17 h_17 e_17 => ?_)
    obtain ⟨rfl, rfl⟩ := e_17
    exact k_iret dX6_isRefusedLaunch_20 rfl rfl (by rw [hPP, show s_refL R b c = some (3, R (52 + 7 * b + 0)) by unfold s_refL; rw [if_pos c_6]]; exact ⟨_, rfl, rfl, rfl⟩)
theorem mc_X6_launches {l : Launch} (ht : l.stackTraces = false) {g : gT} {h : hp} {A : Nat → Nat} (hA : mOK A) {I R : Nat → Int32} {N : Nat → Nat → Int32} {b c : Nat} (hb : b < 20) (hc4 : c < 4) : MM l g yX6_launches kX6_launches [.ref (A 21), .int (nI b), .int (nI c)] (mW h A I R N) (pI fun v_ h' => v_ = R (192 + 3 * c + 0) ∧ h' = mW h A (I) (s_launches R b c) (N)) (noX) (0) (0) := by
  refine MM.of (by decide) rfl rfl rfl (List.forall_mem_cons.mpr ⟨rfl, List.forall_mem_cons.mpr ⟨rfl, List.forall_mem_cons.mpr ⟨rfl, fun _ h => absurd h List.not_mem_nil⟩⟩⟩) (Nat.le_of_ble_eq_true rfl) ht fun X => ?_
  show Wk _ _ _ _ _ _ _ _ _ [some (.ref (A 21)), some (.int (nI b)), some (.int (nI c))] _ _
  refine k_al0 dX6_launches_0 ?_
  refine k_il1 dX6_launches_1 ?_
  refine k_iconst (v := 0) dX6_launches_2 rfl ?_
  refine k_iconst (v := 1) dX6_launches_3 rfl ?_
  refine k_cVV3 cvX6_146_5 dX6_launches_4 (mc_X6_lb ht hA (j := 0) (by exact rfl) rfl (by omega) (by decide)) (mW_mo hA) (Nat.le_of_eq (Nat.zero_add _)) (Nat.le_of_eq (Nat.zero_add _)) (fun h_4 e_4 => ?_)
  subst e_4
  refine k_al0 dX6_launches_7 ?_
  refine k_il1 dX6_launches_8 ?_
  refine k_iconst (v := 4) dX6_launches_9 rfl ?_
  refine k_iconst (v := 0) dX6_launches_10 rfl ?_
  refine k_cVV3 cvX6_146_5 dX6_launches_11 (mc_X6_lb ht hA (j := 4) (by exact rfl) rfl (by omega) (by decide)) (mW_mo hA) (Nat.le_of_eq (Nat.zero_add _)) (Nat.le_of_eq (Nat.zero_add _)) (fun h_11 e_11 => ?_)
  subst e_11
  refine k_al0 dX6_launches_14 ?_
  refine k_il1 dX6_launches_15 ?_
  refine k_iconst (v := 5) dX6_launches_16 rfl ?_
  refine k_al0 dX6_launches_17 ?_
  refine k_il2 dX6_launches_18 ?_
  refine k_iconst (v := 0) dX6_launches_19 rfl ?_
  refine k_cVI2 cvX6_155_5 dX6_launches_20 (mc_X6_cv ht hA (j := 0) (by exact rfl) rfl (by omega) (by decide)) (mW_mo hA) (Nat.le_of_eq (Nat.zero_add _)) (Nat.le_of_eq (Nat.zero_add _)) (fun r_20 h_20 e_20 => ?_)
  obtain ⟨rfl, rfl⟩ := e_20
  rw [upd_n (by omega), upd_n (by omega)]
  refine k_cVV3 cvX6_146_5 dX6_launches_23 (mc_X6_lb ht hA (j := 5) (by exact rfl) rfl (by omega) (by decide)) (mW_mo hA) (Nat.le_of_eq (Nat.zero_add _)) (Nat.le_of_eq (Nat.zero_add _)) (fun h_23 e_23 => ?_)
  subst e_23
  refine k_al0 dX6_launches_26 ?_
  refine k_il2 dX6_launches_27 ?_
  refine k_iconst (v := 1) dX6_launches_28 rfl ?_
  refine k_iconst (v := 4) dX6_launches_29 rfl ?_
  refine k_cVV3 cvX6_149_5 dX6_launches_30 (mc_X6_lc ht hA (j := 1) (by exact rfl) rfl (by omega) (by decide)) (mW_mo hA) (Nat.le_of_eq (Nat.zero_add _)) (Nat.le_of_eq (Nat.zero_add _)) (fun h_30 e_30 => ?_)
  subst e_30
  refine k_al0 dX6_launches_33 ?_
  refine k_il2 dX6_launches_34 ?_
  refine k_iconst (v := 2) dX6_launches_35 rfl ?_
  refine k_al0 dX6_launches_36 ?_
  refine k_il2 dX6_launches_37 ?_
  refine k_iconst (v := 2) dX6_launches_38 rfl ?_
  refine k_cVI2 cvX6_155_5 dX6_launches_39 (mc_X6_cv ht hA (j := 2) (by exact rfl) rfl (by omega) (by decide)) (mW_mo hA) (Nat.le_of_eq (Nat.zero_add _)) (Nat.le_of_eq (Nat.zero_add _)) (fun r_39 h_39 e_39 => ?_)
  obtain ⟨rfl, rfl⟩ := e_39
  rw [upd_n (by omega), upd_n (by omega), upd_n (by omega), upd_n (by omega)]
  refine k_iconst (v := 1) dX6_launches_42 rfl ?_
  refine k_iadd dX6_launches_43 ?_
  refine k_cVV3 cvX6_149_5 dX6_launches_44 (mc_X6_lc ht hA (j := 2) (by exact rfl) rfl (by omega) (by decide)) (mW_mo hA) (Nat.le_of_eq (Nat.zero_add _)) (Nat.le_of_eq (Nat.zero_add _)) (fun h_44 e_44 => ?_)
  subst e_44
  refine k_al0 dX6_launches_47 ?_
  refine m_g0 hA fgX6_7_5 dX6_launches_48 ?_
  refine k_bipush (v := 6) dX6_launches_51 rfl ?_
  refine k_dup2 dX6_launches_53 ?_
  refine m_ldn hA dX6_launches_54 (⟨rfl, by decide⟩ : ixI _ 6) (by decide) ?_
  rw [upd_n (by omega), upd_n (by omega), upd_n (by omega), upd_n (by omega), upd_n (by omega)]
  refine k_iconst (v := 1) dX6_launches_55 rfl ?_
  refine k_iadd dX6_launches_56 ?_
  refine m_stn hA dX6_launches_57 (⟨rfl, by decide⟩ : ixI _ 6) (by decide) ?_
  refine k_al0 dX6_launches_58 ?_
  refine k_il2 dX6_launches_59 ?_
  refine k_iconst (v := 0) dX6_launches_60 rfl ?_
  refine k_cVI2 cvX6_155_5 dX6_launches_61 (mc_X6_cv ht hA (j := 0) (by exact rfl) rfl (by omega) (by decide)) (mW_mo hA) (Nat.le_of_eq (Nat.zero_add _)) (Nat.le_of_eq (Nat.zero_add _)) (fun r_61 h_61 e_61 => ?_)
  obtain ⟨rfl, rfl⟩ := e_61
  exact k_iret dX6_launches_64 rfl rfl ⟨_, rfl, by rw [upd_n (by omega), upd_n (by omega), upd_n (by omega), upd_n (by omega), upd_n (by omega), upd_n (by omega)], rfl⟩
theorem mc_X6_launch {l : Launch} (ht : l.stackTraces = false) {g : gT} {h : hp} {A : Nat → Nat} (hA : mOK A) {I R : Nat → Int32} {N : Nat → Nat → Int32} (b c : Int32) (h2 : R 2 = nI (nB R)) (h28 : nB R ≤ 20) (h3 : R 3 = nI (nC R)) (h38 : nC R ≤ 4) {cc : Nat} (hc : I 6 = nI cc) (hc8 : cc ≤ 8) : MM l g yX6_launch kX6_launch [.ref (A 21), .int b, .int c] (mW h A I R N) (mPost (o_launch R b c) h A I R N) (noX) (0) (0) := by
  refine MM.of (by decide) rfl rfl rfl (List.forall_mem_cons.mpr ⟨rfl, List.forall_mem_cons.mpr ⟨rfl, List.forall_mem_cons.mpr ⟨rfl, fun _ h => absurd h List.not_mem_nil⟩⟩⟩) (Nat.le_of_ble_eq_true rfl) ht fun X => ?_
  show Wk _ _ _ _ _ _ _ _ _ [some (.ref (A 21)), some (.int b), some (.int c)] _ _
  refine Wk.gen fun PP hPP => ?_
  refine k_al0 dX6_launch_0 ?_
  refine k_cVV0 cvX6_87_5 dX6_launch_1 (mc_X6_begins ht hA) (mW_mo hA) (Nat.le_of_eq (Nat.zero_add _)) (Nat.le_of_eq (Nat.zero_add _)) (fun h_1 e_1 => ?_)
  subst e_1
  refine k_al0 dX6_launch_4 ?_
  refine k_il1 dX6_launch_5 ?_
  refine k_cVI1 cvX6_158_5 dX6_launch_6 (mc_X6_isBalloon ht hA _) (mW_mo hA) (Nat.le_of_eq (Nat.zero_add _)) (Nat.le_of_eq (Nat.zero_add _)) (fun r_6 h_6 e_6 => ?_)
  obtain ⟨rfl, rfl⟩ := e_6
  refine k_if_eq (tgt := 20) dX6_launch_9 (by decide) (fun c_9 => ?_) (fun c_9 => ?_)
  · refine k_al0 dX6_launch_20 ?_
    refine k_iconst (v := 1) dX6_launch_21 rfl ?_
    refine k_cVI1 cvX6_75_5 dX6_launch_22 (mc_X6_no ht hA _) (mW_mo hA) (Nat.le_of_eq (Nat.zero_add _)) (Nat.le_of_eq (Nat.zero_add _)) (fun r_22 h_22 e_22 => ?_)
    obtain ⟨rfl, rfl⟩ := e_22
    exact k_iret dX6_launch_25 rfl rfl (by rw [hPP, show o_launch R b c = oNo 1 R by unfold o_launch; first | rw [if_pos (bI_0.mp c_9)] | rw [if_neg (by rw [bI_n0.mp c_9]; decide), if_pos (bI_0.mp (by simpa using c_17))]]; exact ⟨_, rfl, rfl, _, _, mOut_no (by decide) (by simp [uI]) (fun k h5 h7 h8 _ _ _ => by simp [uI, h5, h7, h8]), rfl⟩)
  · refine k_al0 dX6_launch_12 ?_
    refine k_il2 dX6_launch_13 ?_
    refine k_cVI1 cvX6_152_5 dX6_launch_14 (mc_X6_isCrew ht hA _) (mW_mo hA) (Nat.le_of_eq (Nat.zero_add _)) (Nat.le_of_eq (Nat.zero_add _)) (fun r_14 h_14 e_14 => ?_)
    obtain ⟨rfl, rfl⟩ := e_14
    refine k_if_ne (tgt := 26) dX6_launch_17 (by decide) (fun c_17 => ?_) (fun c_17 => ?_)
    · have a1 : inB b 0 (R 2 - 1) = true := bI_n0.mp c_9
      obtain ⟨i, hi, rfl⟩ := (inB_cnt (show nB R < 2 ^ 30 by omega)).mp (by rw [← h2]; exact a1)
      have a2 : inB c 0 (R 3 - 1) = true := bI_n0.mp c_17
      obtain ⟨j, hj, rfl⟩ := (inB_cnt (show nC R < 2 ^ 30 by omega)).mp (by rw [← h3]; exact a2)
      refine k_al0 dX6_launch_26 ?_
      refine k_il1 dX6_launch_27 ?_
      refine k_il2 dX6_launch_28 ?_
      refine k_cVI2 cvX6_161_5 dX6_launch_29 (mc_X6_isRefusedLaunch ht hA (by omega) (by omega)) (mW_mo hA) (Nat.le_of_eq (Nat.zero_add _)) (Nat.le_of_eq (Nat.zero_add _)) (fun r_29 h_29 e_29 => ?_)
      obtain ⟨rfl, rfl⟩ := e_29
      refine k_if_eq (tgt := 43) dX6_launch_32 (by decide) (fun c_32 => ?_) (fun c_32 => ?_)
      · have hno : s_refL R i j = none := by simpa using bI_0.mp c_32
        rw [hno]
        refine k_al0 dX6_launch_43 ?_
        refine k_al0 dX6_launch_44 ?_
        refine k_il1 dX6_launch_45 ?_
        refine k_il2 dX6_launch_46 ?_
        refine k_cVI2 cvX6_164_5 dX6_launch_47 (mc_X6_launches ht hA (by omega) (by omega)) (mW_mo hA) (Nat.le_of_eq (Nat.zero_add _)) (Nat.le_of_eq (Nat.zero_add _)) (fun r_47 h_47 e_47 => ?_)
        obtain ⟨rfl, rfl⟩ := e_47
        refine k_cVI1 cvX6_101_5 dX6_launch_50 (mc_X6_keeps ht hA _ (c := cc) (by simp [mWhy, uI]; exact hc) hc8) (mW_mo hA) (Nat.le_of_eq (Nat.zero_add _)) (Nat.le_of_eq (Nat.zero_add _)) (fun r_50 h_50 e_50 => ?_)
        exact k_iret dX6_launch_53 rfl rfl (by obtain ⟨rfl, I', N', hk, rfl⟩ := e_50; rw [hPP, show o_launch R (nI i) (nI j) = oOk (R (192 + 3 * j + 0)) (s_launches R i j) by unfold o_launch; rw [if_neg (by rw [a1]; decide), if_neg (by rw [a2]; decide), nI_clamp (show i < 2 ^ 31 by omega), nI_clamp (show j < 2 ^ 31 by omega), hno]]; exact ⟨_, rfl, rfl, I', N', mOut_ok hk (by simp [mWhy, uI]) (fun k h5 h7 h8 _ _ _ => by simp [mWhy, uI, h5, h7, h8]), rfl⟩)
      · refine k_al0 dX6_launch_35 ?_
        refine k_iconst (v := 2) dX6_launch_36 rfl ?_
        refine k_cVI1 cvX6_117_5 dX6_launch_37 (mc_X6_refused ht hA _) (mW_mo hA) (Nat.le_of_eq (Nat.zero_add _)) (Nat.le_of_eq (Nat.zero_add _)) (fun r_37 h_37 e_37 => ?_)
        obtain ⟨rfl, rfl⟩ := e_37
        refine k_goto (tgt := 53) dX6_launch_40 (by decide) ?_
        exact k_iret dX6_launch_53 rfl rfl (by obtain ⟨w, hw⟩ := Option.isSome_iff_exists.mp (bI_n0.mp c_32); rw [hPP, hw, show o_launch R (nI i) (nI j) = oRf 2 w.1 w.2 R by unfold o_launch; rw [if_neg (by rw [a1]; decide), if_neg (by rw [a2]; decide), nI_clamp (show i < 2 ^ 31 by omega), nI_clamp (show j < 2 ^ 31 by omega), hw]]; exact ⟨_, rfl, rfl, _, _, mOut_rf (by decide) (by simp [uI]) (by simp [uI, mWhy_7]) (by simp [uI, mWhy_7]) (fun k h5 h7 h8 h9 h10 _ _ _ => by simp [uI, h5, h9, h10, mWhy_n h7 h8]), rfl⟩)
    · refine k_al0 dX6_launch_20 ?_
      refine k_iconst (v := 1) dX6_launch_21 rfl ?_
      refine k_cVI1 cvX6_75_5 dX6_launch_22 (mc_X6_no ht hA _) (mW_mo hA) (Nat.le_of_eq (Nat.zero_add _)) (Nat.le_of_eq (Nat.zero_add _)) (fun r_22 h_22 e_22 => ?_)
      obtain ⟨rfl, rfl⟩ := e_22
      exact k_iret dX6_launch_25 rfl rfl (by rw [hPP, show o_launch R b c = oNo 1 R by unfold o_launch; first | rw [if_pos (bI_0.mp c_9)] | rw [if_neg (by rw [bI_n0.mp c_9]; decide), if_pos (bI_0.mp (by simpa using c_17))]]; exact ⟨_, rfl, rfl, _, _, mOut_no (by decide) (by simp [uI]) (fun k h5 h7 h8 _ _ _ => by simp [uI, h5, h7, h8]), rfl⟩)
