/-! THE MODEL: contracts of its methods, 4 (printed by tools/mk_model4.py) -/
set_option maxRecDepth 100000
theorem cvX6_124_5 : CVs "TissueBalloonsModel" 124 5 yX6_roofsWith kX6_roofsWith 1 := ⟨⟨TX6, 21, rfl⟩, q3244, q3246, qs41, q100, q3247, ⟨by decide, by decide⟩, rfl⟩
theorem cvX6_127_5 : CVs "TissueBalloonsModel" 127 5 yX6_watches kX6_watches 2 := ⟨⟨TX6, 21, rfl⟩, q3240, q3242, qs40, q100, q3243, ⟨by decide, by decide⟩, rfl⟩
theorem csX6_131 : CSs "TissueBalloonsModel" 131 yX6_least kX6_least 2 := ⟨q3260, q3261, q100, q3262, ⟨by decide, by decide⟩, rfl⟩
theorem cvX6_134_5 : CVs "TissueBalloonsModel" 134 5 yX6_isRefusedWet kX6_isRefusedWet 1 := ⟨⟨TX6, 21, rfl⟩, q3252, q3254, qs42, q100, q3255, ⟨by decide, by decide⟩, rfl⟩
theorem cvX6_137_5 : CVs "TissueBalloonsModel" 137 5 yX6_wets kX6_wets 2 := ⟨⟨TX6, 21, rfl⟩, q3256, q3258, qs43, q100, q3259, ⟨by decide, by decide⟩, rfl⟩
theorem cvX6_140_5 : CVs "TissueBalloonsModel" 140 5 yX6_bv kX6_bv 2 := ⟨⟨TX6, 21, rfl⟩, q3271, q3273, qs45, q100, q3274, ⟨by decide, by decide⟩, rfl⟩
theorem cvX6_143_5 : CVs "TissueBalloonsModel" 143 5 yX6_isFlying kX6_isFlying 1 := ⟨⟨TX6, 21, rfl⟩, q3267, q3269, qs44, q100, q3270, ⟨by decide, by decide⟩, rfl⟩
theorem mc_X6_roofOf {l : Launch} (ht : l.stackTraces = false) {g : gT} {h : hp} {A : Nat → Nat} (hA : mOK A) {I R : Nat → Int32} {N : Nat → Nat → Int32} (pl what : Int32) (h1 : R 1 = nI (nR R)) (h18 : nR R ≤ 8) : MM l g yX6_roofOf kX6_roofOf [.ref (A 21), .int pl, .int what] (mW h A I R N) (mQry (q_roofOf R pl what) h A I R N) (noX) (0) (0) := by
  refine MM.of (by decide) rfl rfl rfl (List.forall_mem_cons.mpr ⟨rfl, List.forall_mem_cons.mpr ⟨rfl, List.forall_mem_cons.mpr ⟨rfl, fun _ h => absurd h List.not_mem_nil⟩⟩⟩) (Nat.le_of_ble_eq_true rfl) ht fun X => ?_
  show Wk _ _ _ _ _ _ _ _ _ [some (.ref (A 21)), some (.int pl), some (.int what), none] _ _
  refine Wk.gen fun PP hPP => ?_
  refine k_al0 dX6_roofOf_0 ?_
  refine k_iconst (v := 0) dX6_roofOf_1 rfl ?_
  refine m_p5 hA fpX6_25_5 dX6_roofOf_2 ?_
  refine k_al0 dX6_roofOf_5 ?_
  refine k_il1 dX6_roofOf_6 ?_
  refine k_cVI1 cvX6_110_5 dX6_roofOf_7 (mc_X6_roofAtPlace ht hA _ h1 h18) (mW_mo hA) (Nat.le_of_eq (Nat.zero_add _)) (Nat.le_of_eq (Nat.zero_add _)) (fun r_7 h_7 e_7 => ?_)
  obtain ⟨rfl, rfl⟩ := e_7
  refine k_is3 dX6_roofOf_10 (Nat.le_of_ble_eq_true rfl) ?_
  refine k_il3 dX6_roofOf_11 ?_
  refine k_if_ge (tgt := 21) dX6_roofOf_12 (by decide) (fun c_12 => ?_) (fun c_12 => ?_)
  · obtain ⟨r, hr⟩ := rfo_ge (Int32.not_lt.mpr c_12)
    have hr8 := s_roofAt_lt hr
    refine k_il2 dX6_roofOf_21 ?_
    refine k_iconst (v := 0) dX6_roofOf_22 rfl ?_
    refine k_iconst (v := 3) dX6_roofOf_23 rfl ?_
    refine k_cSI3 csX6_83 dX6_roofOf_24 (mc_X6_in ht _ _ _) (Nat.le_of_eq (Nat.zero_add _)) (Nat.le_of_eq (Nat.zero_add _)) (fun r_24 h_24 e_24 => ?_)
    obtain ⟨rfl, rfl⟩ := e_24
    refine k_if_eq (tgt := 41) dX6_roofOf_27 (by decide) (fun c_27 => ?_) (fun c_27 => ?_)
    · refine k_al0 dX6_roofOf_41 ?_
      refine k_iconst (v := 2) dX6_roofOf_42 rfl ?_
      refine k_cVI1 cvX6_75_5 dX6_roofOf_43 (mc_X6_no ht hA _) (mW_mo hA) (Nat.le_of_eq (Nat.zero_add _)) (Nat.le_of_eq (Nat.zero_add _)) (fun r_43 h_43 e_43 => ?_)
      obtain ⟨rfl, rfl⟩ := e_43
      exact k_iret dX6_roofOf_46 rfl rfl (by rw [hPP, show q_roofOf R pl what = (2, 0) from (by unfold q_roofOf; rw [hr]; simp only; rw [if_neg (by rw [bI_0.mp c_27]; decide)])]; exact ⟨_, rfl, rfl, by first | rfl | rw [uI_uI]⟩)
    · have hw : inB what 0 3 = true := bI_n0.mp c_27
      obtain ⟨i, hi, rfl⟩ := inB_nI (n := 3) (by decide) hw
      refine k_al0 dX6_roofOf_30 ?_
      refine k_il3 dX6_roofOf_31 ?_
      refine Wk.top (v' := .int (nI r)) (by rw [hr]; rfl) ?_
      refine k_il2 dX6_roofOf_32 ?_
      refine k_iconst (v := 1) dX6_roofOf_33 rfl ?_
      refine k_iadd dX6_roofOf_34 ?_
      refine Wk.top (v' := .int (nI (i + 1))) (congrArg Value.int (nI_1 i)) ?_
      refine k_cVI2 cvX6_104_5 dX6_roofOf_35 (mc_X6_rv ht hA (by exact rfl) (by exact rfl) (by omega) (by first | decide | omega)) (mW_mo hA) (Nat.le_of_eq (Nat.zero_add _)) (Nat.le_of_eq (Nat.zero_add _)) (fun r_35 h_35 e_35 => ?_)
      obtain ⟨rfl, rfl⟩ := e_35
      refine k_goto (tgt := 46) dX6_roofOf_38 (by decide) ?_
      exact k_iret dX6_roofOf_46 rfl rfl (by rw [hPP, show q_roofOf R pl (nI i) = (0, R (12 + 5 * r + (i + 1))) from (by unfold q_roofOf; rw [hr]; simp only; rw [if_pos hw, nI_clamp (by omega)])]; exact ⟨_, rfl, rfl, by first | rfl | rw [uI_uI]⟩)
  · refine k_al0 dX6_roofOf_15 ?_
    refine k_iconst (v := 1) dX6_roofOf_16 rfl ?_
    refine k_cVI1 cvX6_75_5 dX6_roofOf_17 (mc_X6_no ht hA _) (mW_mo hA) (Nat.le_of_eq (Nat.zero_add _)) (Nat.le_of_eq (Nat.zero_add _)) (fun r_17 h_17 e_17 => ?_)
    obtain ⟨rfl, rfl⟩ := e_17
    exact k_iret dX6_roofOf_20 rfl rfl (by rw [hPP, show q_roofOf R pl what = (1, 0) from (by unfold q_roofOf; rw [rfo_lt (s_roofAt_b h18) (Int32.not_le.mp (by simpa using c_12))])]; exact ⟨_, rfl, rfl, by first | rfl | rw [uI_uI]⟩)
theorem mc_X6_roofAt {l : Launch} (ht : l.stackTraces = false) {g : gT} {h : hp} {A : Nat → Nat} (hA : mOK A) {I R : Nat → Int32} {N : Nat → Nat → Int32} (ix : Int32) (h1 : R 1 = nI (nR R)) (h18 : nR R ≤ 8) : MM l g yX6_roofAt kX6_roofAt [.ref (A 21), .int ix] (mW h A I R N) (mQry (q_roofAt R ix) h A I R N) (noX) (0) (0) := by
  refine MM.of (by decide) rfl rfl rfl (List.forall_mem_cons.mpr ⟨rfl, List.forall_mem_cons.mpr ⟨rfl, fun _ h => absurd h List.not_mem_nil⟩⟩) (Nat.le_of_ble_eq_true rfl) ht fun X => ?_
  show Wk _ _ _ _ _ _ _ _ _ [some (.ref (A 21)), some (.int ix), none, none, none] _ _
  refine Wk.gen fun PP hPP => ?_
  have inner : ∀ i, i < nR R → Wk l g X kX6_roofAt PP noX 0 0 63 [some (.ref (A 21)), some (.int ix), some (.int (nI i)), some (.int (s_below R i)), some (.int (nI (nR R)))] [] (mW h A (uI I 5 0) R N) → ∀ d o, o + d = nR R → Wk l g X kX6_roofAt PP noX 0 0 22 [some (.ref (A 21)), some (.int ix), some (.int (nI i)), some (.int (s_sum o (fun q => if R (12 + 5 * q) < R (12 + 5 * i) then 1 else 0))), some (.int (nI o))] [] (mW h A (uI I 5 0) R N) := by
    intro i hi kin d
    induction d with
    | zero =>
      intro o hod
      have ho : o = nR R := by omega
      refine k_il4 dX6_roofAt_22 ?_
      refine k_al0 dX6_roofAt_24 ?_
      refine m_g0 hA fgX6_7_5 dX6_roofAt_25 ?_
      refine k_iconst (v := 1) dX6_roofAt_28 rfl ?_
      refine m_ldn hA dX6_roofAt_29 (⟨rfl, by decide⟩ : ixI _ 1) (by decide) ?_
      rw [h1]
      refine k_icmp_ge (tgt := 63) dX6_roofAt_30 (by decide) (fun c_30 => ?_) (fun c_30 => absurd ((show nI (nR R) ≤ nI o by rw [ho]; exact Int32.le_refl _)) c_30)
      subst ho
      exact kin
    | succ d ih =>
      intro o hod
      have ho : o < nR R := by omega
      refine k_il4 dX6_roofAt_22 ?_
      refine k_al0 dX6_roofAt_24 ?_
      refine m_g0 hA fgX6_7_5 dX6_roofAt_25 ?_
      refine k_iconst (v := 1) dX6_roofAt_28 rfl ?_
      refine m_ldn hA dX6_roofAt_29 (⟨rfl, by decide⟩ : ixI _ 1) (by decide) ?_
      rw [h1]
      refine k_icmp_ge (tgt := 63) dX6_roofAt_30 (by decide) (fun c_30 => absurd c_30 (nI_ge ho (by omega))) (fun c_30 => ?_)
      refine k_il3 dX6_roofAt_33 ?_
      refine k_al0 dX6_roofAt_34 ?_
      refine k_il4 dX6_roofAt_35 ?_
      refine k_iconst (v := 0) dX6_roofAt_37 rfl ?_
      refine k_cVI2 cvX6_104_5 dX6_roofAt_38 (mc_X6_rv ht hA (by exact rfl) (by exact rfl) (by omega) (by first | decide | omega)) (mW_mo hA) (Nat.le_of_eq (Nat.zero_add _)) (Nat.le_of_eq (Nat.zero_add _)) (fun r_38 h_38 e_38 => ?_)
      obtain ⟨rfl, rfl⟩ := e_38
      refine k_al0 dX6_roofAt_41 ?_
      refine k_il2 dX6_roofAt_42 ?_
      refine k_iconst (v := 0) dX6_roofAt_43 rfl ?_
      refine k_cVI2 cvX6_104_5 dX6_roofAt_44 (mc_X6_rv ht hA (by exact rfl) (by exact rfl) (by omega) (by first | decide | omega)) (mW_mo hA) (Nat.le_of_eq (Nat.zero_add _)) (Nat.le_of_eq (Nat.zero_add _)) (fun r_44 h_44 e_44 => ?_)
      obtain ⟨rfl, rfl⟩ := e_44
      refine k_icmp_ge (tgt := 54) dX6_roofAt_47 (by decide) (fun c_47 => ?_) (fun c_47 => ?_)
      · refine k_iconst (v := 0) dX6_roofAt_54 rfl ?_
        refine k_iadd dX6_roofAt_55 ?_
        refine Wk.top (v' := .int (s_sum (o + 1) (fun q => if R (12 + 5 * q) < R (12 + 5 * i) then 1 else 0))) (congrArg Value.int (show _ = s_sum o _ + (if R (12 + 5 * o) < R (12 + 5 * i) then 1 else 0) by rw [if_neg (show ¬ R (12 + 5 * o) < R (12 + 5 * i) from Int32.not_lt.mpr c_47)])) ?_
        refine k_is3 dX6_roofAt_56 (Nat.le_of_ble_eq_true rfl) ?_
        refine k_ic4 (v := nI (o + 1)) dX6_roofAt_57 (nI_1 o) (Nat.le_of_ble_eq_true rfl) ?_
        refine k_goto (tgt := 22) dX6_roofAt_60 (by decide) ?_
        exact ih (o + 1) (by omega)
      · refine k_iconst (v := 1) dX6_roofAt_50 rfl ?_
        refine k_goto (tgt := 55) dX6_roofAt_51 (by decide) ?_
        refine k_iadd dX6_roofAt_55 ?_
        refine Wk.top (v' := .int (s_sum (o + 1) (fun q => if R (12 + 5 * q) < R (12 + 5 * i) then 1 else 0))) (congrArg Value.int (show _ = s_sum o _ + (if R (12 + 5 * o) < R (12 + 5 * i) then 1 else 0) by rw [if_pos (show R (12 + 5 * o) < R (12 + 5 * i) from Int32.not_le.mp c_47)])) ?_
        refine k_is3 dX6_roofAt_56 (Nat.le_of_ble_eq_true rfl) ?_
        refine k_ic4 (v := nI (o + 1)) dX6_roofAt_57 (nI_1 o) (Nat.le_of_ble_eq_true rfl) ?_
        refine k_goto (tgt := 22) dX6_roofAt_60 (by decide) ?_
        exact ih (o + 1) (by omega)
  have loop : ∀ d i, i + d = nR R → (∀ j, j < i → (s_below R j == ix) = false) → Wk l g X kX6_roofAt PP noX 0 0 7 [some (.ref (A 21)), some (.int ix), some (.int (nI i)), none, none] [] (mW h A (uI I 5 0) R N) := by
    intro d
    induction d with
    | zero =>
      intro i hid hv
      have hi : i = nR R := by omega
      refine k_il2 dX6_roofAt_7 ?_
      refine k_al0 dX6_roofAt_8 ?_
      refine m_g0 hA fgX6_7_5 dX6_roofAt_9 ?_
      refine k_iconst (v := 1) dX6_roofAt_12 rfl ?_
      refine m_ldn hA dX6_roofAt_13 (⟨rfl, by decide⟩ : ixI _ 1) (by decide) ?_
      rw [h1]
      refine k_icmp_ge (tgt := 81) dX6_roofAt_14 (by decide) (fun c_14 => ?_) (fun c_14 => absurd ((show nI (nR R) ≤ nI i by rw [hi]; exact Int32.le_refl _)) c_14)
      refine k_al0 dX6_roofAt_81 ?_
      refine k_iconst (v := 1) dX6_roofAt_82 rfl ?_
      refine k_cVI1 cvX6_75_5 dX6_roofAt_83 (mc_X6_no ht hA _) (mW_mo hA) (Nat.le_of_eq (Nat.zero_add _)) (Nat.le_of_eq (Nat.zero_add _)) (fun r_83 h_83 e_83 => ?_)
      obtain ⟨rfl, rfl⟩ := e_83
      exact k_iret dX6_roofAt_86 rfl rfl (by rw [hPP, show q_roofAt R ix = (1, 0) from (by unfold q_roofAt; rw [s_find_none (by rw [← hi]; exact hv)])]; exact ⟨_, rfl, rfl, by first | rfl | rw [uI_uI]⟩)
    | succ d ih =>
      intro i hid hv
      have hi : i < nR R := by omega
      refine k_il2 dX6_roofAt_7 ?_
      refine k_al0 dX6_roofAt_8 ?_
      refine m_g0 hA fgX6_7_5 dX6_roofAt_9 ?_
      refine k_iconst (v := 1) dX6_roofAt_12 rfl ?_
      refine m_ldn hA dX6_roofAt_13 (⟨rfl, by decide⟩ : ixI _ 1) (by decide) ?_
      rw [h1]
      refine k_icmp_ge (tgt := 81) dX6_roofAt_14 (by decide) (fun c_14 => absurd c_14 (nI_ge hi (by omega))) (fun c_14 => ?_)
      refine k_iconst (v := 0) dX6_roofAt_17 rfl ?_
      refine k_is3 dX6_roofAt_18 (Nat.le_of_ble_eq_true rfl) ?_
      refine k_iconst (v := 0) dX6_roofAt_19 rfl ?_
      refine k_is4 dX6_roofAt_20 (Nat.le_of_ble_eq_true rfl) ?_
      refine inner i hi ?_ (nR R) 0 (by omega)
      refine k_il3 dX6_roofAt_63 ?_
      refine k_il1 dX6_roofAt_64 ?_
      refine k_icmp_ne (tgt := 75) dX6_roofAt_65 (by decide) (fun c_65 => ?_) (fun c_65 => ?_)
      · refine k_ic2 (v := nI (i + 1)) dX6_roofAt_75 (nI_1 i) (Nat.le_of_ble_eq_true rfl) ?_
        refine k_goto (tgt := 7) dX6_roofAt_78 (by decide) ?_
        refine (ih (i + 1) (by omega) (lt_s hv (by simpa using c_65))).loc (fun j v hj => ?_)
        match j, hj with
        | 0, hj => exact hj
        | 1, hj => exact hj
        | 2, hj => exact hj
        | 3, hj => exact absurd hj (by simp)
        | 4, hj => exact absurd hj (by simp)
        | j + 5, hj => exact absurd hj (by simp)
      · refine k_al0 dX6_roofAt_68 ?_
        refine k_il2 dX6_roofAt_69 ?_
        refine k_iconst (v := 0) dX6_roofAt_70 rfl ?_
        refine k_cVI2 cvX6_104_5 dX6_roofAt_71 (mc_X6_rv ht hA (by exact rfl) (by exact rfl) (by omega) (by first | decide | omega)) (mW_mo hA) (Nat.le_of_eq (Nat.zero_add _)) (Nat.le_of_eq (Nat.zero_add _)) (fun r_71 h_71 e_71 => ?_)
        obtain ⟨rfl, rfl⟩ := e_71
        exact k_iret dX6_roofAt_74 rfl rfl (by rw [hPP, show q_roofAt R ix = (0, R (12 + 5 * i)) from (by unfold q_roofAt; rw [s_find_some hi (by simpa using c_65) hv])]; exact ⟨_, rfl, rfl, by first | rfl | rw [uI_uI]⟩)
  refine k_al0 dX6_roofAt_0 ?_
  refine k_iconst (v := 0) dX6_roofAt_1 rfl ?_
  refine m_p5 hA fpX6_25_5 dX6_roofAt_2 ?_
  refine k_iconst (v := 0) dX6_roofAt_5 rfl ?_
  refine k_is2 dX6_roofAt_6 (Nat.le_of_ble_eq_true rfl) ?_
  exact loop (nR R) 0 (by omega) lt_0
theorem mc_X6_nearest {l : Launch} (ht : l.stackTraces = false) {g : gT} {h : hp} {A : Nat → Nat} (hA : mOK A) {I R : Nat → Int32} {N : Nat → Nat → Int32} (pl : Int32) (h1 : R 1 = nI (nR R)) (h18 : nR R ≤ 8) : MM l g yX6_nearest kX6_nearest [.ref (A 21), .int pl] (mW h A I R N) (mQry (q_nearest R pl) h A I R N) (noX) (0) (0) := by
  refine MM.of (by decide) rfl rfl rfl (List.forall_mem_cons.mpr ⟨rfl, List.forall_mem_cons.mpr ⟨rfl, fun _ h => absurd h List.not_mem_nil⟩⟩) (Nat.le_of_ble_eq_true rfl) ht fun X => ?_
  show Wk _ _ _ _ _ _ _ _ _ [some (.ref (A 21)), some (.int pl), none] _ _
  refine Wk.gen fun PP hPP => ?_
  have loop0 : inB pl 0 60 = true → Wk l g X kX6_nearest PP noX 0 0 20 [some (.ref (A 21)), some (.int pl), some (.int (nI 0))] [] (mW h A (uI I 5 0) R N) := by
    intro hpl
    have loop : ∀ d i, i + d = 61 → (∀ j, j < i → ((s_roofAt R (pl - nI j)).isSome || (s_roofAt R (pl + nI j)).isSome) = false) → Wk l g X kX6_nearest PP noX 0 0 20 [some (.ref (A 21)), some (.int pl), some (.int (nI i))] [] (mW h A (uI I 5 0) R N) := by
      intro d
      induction d with
      | zero =>
        intro i hid hv
        have hi : i = 61 := by omega
        refine k_il2 dX6_nearest_20 ?_
        refine k_bipush (v := 60) dX6_nearest_21 rfl ?_
        refine k_icmp_gt (tgt := 60) dX6_nearest_23 (by decide) (fun c_23 => ?_) (fun c_23 => absurd ((show (60 : Int32) < nI i by rw [hi]; decide)) c_23)
        refine k_al0 dX6_nearest_60 ?_
        refine k_iconst (v := 2) dX6_nearest_61 rfl ?_
        refine k_cVI1 cvX6_75_5 dX6_nearest_62 (mc_X6_no ht hA _) (mW_mo hA) (Nat.le_of_eq (Nat.zero_add _)) (Nat.le_of_eq (Nat.zero_add _)) (fun r_62 h_62 e_62 => ?_)
        obtain ⟨rfl, rfl⟩ := e_62
        exact k_iret dX6_nearest_65 rfl rfl (by rw [hPP, show q_nearest R pl = (2, 0) from (by unfold q_nearest; rw [if_neg (by rw [hpl]; decide), s_find_none (by rw [← hi]; exact hv)])]; exact ⟨_, rfl, rfl, by first | rfl | rw [uI_uI]⟩)
      | succ d ih =>
        intro i hid hv
        have hi : i < 61 := by omega
        refine k_il2 dX6_nearest_20 ?_
        refine k_bipush (v := 60) dX6_nearest_21 rfl ?_
        refine k_icmp_gt (tgt := 60) dX6_nearest_23 (by decide) (fun c_23 => absurd c_23 ((show ¬ (60 : Int32) < nI i from nI_nlt (show i ≤ 60 by omega) (by decide)))) (fun c_23 => ?_)
        refine k_al0 dX6_nearest_26 ?_
        refine k_il1 dX6_nearest_27 ?_
        refine k_il2 dX6_nearest_28 ?_
        refine k_isub dX6_nearest_29 ?_
        refine k_cVI1 cvX6_110_5 dX6_nearest_30 (mc_X6_roofAtPlace ht hA _ h1 h18) (mW_mo hA) (Nat.le_of_eq (Nat.zero_add _)) (Nat.le_of_eq (Nat.zero_add _)) (fun r_30 h_30 e_30 => ?_)
        obtain ⟨rfl, rfl⟩ := e_30
        refine k_if_lt (tgt := 40) dX6_nearest_33 (by decide) (fun c_33 => ?_) (fun c_33 => ?_)
        · have hn1 := rfo_lt (s_roofAt_b h18) c_33
          refine k_al0 dX6_nearest_40 ?_
          refine k_il1 dX6_nearest_41 ?_
          refine k_il2 dX6_nearest_42 ?_
          refine k_iadd dX6_nearest_43 ?_
          refine k_cVI1 cvX6_110_5 dX6_nearest_44 (mc_X6_roofAtPlace ht hA _ h1 h18) (mW_mo hA) (Nat.le_of_eq (Nat.zero_add _)) (Nat.le_of_eq (Nat.zero_add _)) (fun r_44 h_44 e_44 => ?_)
          obtain ⟨rfl, rfl⟩ := e_44
          refine k_if_lt (tgt := 54) dX6_nearest_47 (by decide) (fun c_47 => ?_) (fun c_47 => ?_)
          · have hn2 := rfo_lt (s_roofAt_b h18) c_47
            refine k_ic2 (v := nI (i + 1)) dX6_nearest_54 (nI_1 i) (Nat.le_of_ble_eq_true rfl) ?_
            refine k_goto (tgt := 20) dX6_nearest_57 (by decide) ?_
            exact ih (i + 1) (by omega) (lt_s hv (by simp [hn1, hn2]))
          · obtain ⟨r, hr⟩ := rfo_ge c_47
            refine k_il1 dX6_nearest_50 ?_
            refine k_il2 dX6_nearest_51 ?_
            refine k_iadd dX6_nearest_52 ?_
            exact k_iret dX6_nearest_53 rfl rfl (by rw [hPP, show q_nearest R pl = (0, pl + nI i) from (by unfold q_nearest; rw [if_neg (by rw [hpl]; decide), s_find_some hi (by simp [hr]) hv]; simp only; rw [if_neg (by simp [hn1])])]; exact ⟨_, rfl, rfl, by first | rfl | rw [uI_uI]⟩)
        · obtain ⟨r, hr⟩ := rfo_ge c_33
          refine k_il1 dX6_nearest_36 ?_
          refine k_il2 dX6_nearest_37 ?_
          refine k_isub dX6_nearest_38 ?_
          exact k_iret dX6_nearest_39 rfl rfl (by rw [hPP, show q_nearest R pl = (0, pl - nI i) from (by unfold q_nearest; rw [if_neg (by rw [hpl]; decide), s_find_some hi (by simp [hr]) hv]; simp only; rw [if_pos (by simp [hr])])]; exact ⟨_, rfl, rfl, by first | rfl | rw [uI_uI]⟩)
    exact loop 61 0 rfl lt_0
  refine k_al0 dX6_nearest_0 ?_
  refine k_iconst (v := 0) dX6_nearest_1 rfl ?_
  refine m_p5 hA fpX6_25_5 dX6_nearest_2 ?_
  refine k_il1 dX6_nearest_5 ?_
  refine k_cSI1 csX6_107 dX6_nearest_6 (mc_X6_isPlace ht _) (Nat.le_of_eq (Nat.zero_add _)) (Nat.le_of_eq (Nat.zero_add _)) (fun r_6 h_6 e_6 => ?_)
  obtain ⟨rfl, rfl⟩ := e_6
  refine k_if_ne (tgt := 18) dX6_nearest_9 (by decide) (fun c_9 => ?_) (fun c_9 => ?_)
  · refine k_iconst (v := 0) dX6_nearest_18 rfl ?_
    refine k_is2 dX6_nearest_19 (Nat.le_of_ble_eq_true rfl) ?_
    exact loop0 (bI_n0.mp c_9)
  · refine k_al0 dX6_nearest_12 ?_
    refine k_iconst (v := 1) dX6_nearest_13 rfl ?_
    refine k_cVI1 cvX6_75_5 dX6_nearest_14 (mc_X6_no ht hA _) (mW_mo hA) (Nat.le_of_eq (Nat.zero_add _)) (Nat.le_of_eq (Nat.zero_add _)) (fun r_14 h_14 e_14 => ?_)
    obtain ⟨rfl, rfl⟩ := e_14
    exact k_iret dX6_nearest_17 rfl rfl (by rw [hPP, show q_nearest R pl = (1, 0) from (by unfold q_nearest; rw [if_pos (bI_0.mp (by simpa using c_9))])]; exact ⟨_, rfl, rfl, by first | rfl | rw [uI_uI]⟩)
theorem nR_w {R : Row} {k : Nat} {v : Int32} {n : Nat} (h : 12 ≤ k) (h1 : R 1 = nI (nR R)) : upd R k v 1 = nI (nR (upd R k v)) := by rw [upd_n (by omega), nR_upd (by omega)]; exact h1
theorem mc_X6_watches {l : Launch} (ht : l.stackTraces = false) {g : gT} {h : hp} {A : Nat → Nat} (hA : mOK A) {I R : Nat → Int32} {N : Nat → Nat → Int32} {r : Nat} (hr8 : r < 8) (b : Int32) (h1 : R 1 = nI (nR R)) (h18 : nR R ≤ 8) : MM l g yX6_watches kX6_watches [.ref (A 21), .int (nI r), .int b] (mW h A I R N) (pI fun v_ h' => v_ = s_with (upd R (12 + 5 * r + 2) (if b = 0 then 0 else 1)) 2 ∧ h' = mW h A (I) (upd R (12 + 5 * r + 2) (if b = 0 then 0 else 1)) (N)) (noX) (0) (0) := by
  refine MM.of (by decide) rfl rfl rfl (List.forall_mem_cons.mpr ⟨rfl, List.forall_mem_cons.mpr ⟨rfl, List.forall_mem_cons.mpr ⟨rfl, fun _ h => absurd h List.not_mem_nil⟩⟩⟩) (Nat.le_of_ble_eq_true rfl) ht fun X => ?_
  show Wk _ _ _ _ _ _ _ _ _ [some (.ref (A 21)), some (.int (nI r)), some (.int b)] _ _
  refine k_al0 dX6_watches_0 ?_
  refine k_il1 dX6_watches_1 ?_
  refine k_iconst (v := 2) dX6_watches_2 rfl ?_
  refine k_il2 dX6_watches_3 ?_
  refine k_if_eq (tgt := 11) dX6_watches_4 (by decide) (fun c_4 => ?_) (fun c_4 => ?_)
  · refine k_iconst (v := 0) dX6_watches_11 rfl ?_
    refine k_cVV3 cvX6_120_5 dX6_watches_12 (mc_X6_lr ht hA (by exact rfl) (by exact rfl) (by omega) (by decide)) (mW_mo hA) (Nat.le_of_eq (Nat.zero_add _)) (Nat.le_of_eq (Nat.zero_add _)) (fun h_12 e_12 => ?_)
    subst e_12
    refine k_al0 dX6_watches_15 ?_
    refine k_iconst (v := 2) dX6_watches_16 rfl ?_
    refine k_cVI1 cvX6_124_5 dX6_watches_17 (mc_X6_roofsWith ht hA (nR_w (n := 0) (by omega) h1) (by rw [nR_upd (by omega)]; exact h18) (w := 2) rfl (by decide)) (mW_mo hA) (Nat.le_of_eq (Nat.zero_add _)) (Nat.le_of_eq (Nat.zero_add _)) (fun r_17 h_17 e_17 => ?_)
    obtain ⟨rfl, rfl⟩ := e_17
    exact k_iret dX6_watches_20 rfl rfl ⟨_, rfl, by first | rw [if_pos c_4] | rw [if_neg c_4], by first | rw [if_pos c_4] | rw [if_neg c_4]⟩
  · refine k_iconst (v := 1) dX6_watches_7 rfl ?_
    refine k_goto (tgt := 12) dX6_watches_8 (by decide) ?_
    refine k_cVV3 cvX6_120_5 dX6_watches_12 (mc_X6_lr ht hA (by exact rfl) (by exact rfl) (by omega) (by decide)) (mW_mo hA) (Nat.le_of_eq (Nat.zero_add _)) (Nat.le_of_eq (Nat.zero_add _)) (fun h_12 e_12 => ?_)
    subst e_12
    refine k_al0 dX6_watches_15 ?_
    refine k_iconst (v := 2) dX6_watches_16 rfl ?_
    refine k_cVI1 cvX6_124_5 dX6_watches_17 (mc_X6_roofsWith ht hA (nR_w (n := 0) (by omega) h1) (by rw [nR_upd (by omega)]; exact h18) (w := 2) rfl (by decide)) (mW_mo hA) (Nat.le_of_eq (Nat.zero_add _)) (Nat.le_of_eq (Nat.zero_add _)) (fun r_17 h_17 e_17 => ?_)
    obtain ⟨rfl, rfl⟩ := e_17
    exact k_iret dX6_watches_20 rfl rfl ⟨_, rfl, by first | rw [if_pos c_4] | rw [if_neg c_4], by first | rw [if_pos c_4] | rw [if_neg c_4]⟩
theorem mc_X6_watch {l : Launch} (ht : l.stackTraces = false) {g : gT} {h : hp} {A : Nat → Nat} (hA : mOK A) {I R : Nat → Int32} {N : Nat → Nat → Int32} (pl b : Int32) (h1 : R 1 = nI (nR R)) (h18 : nR R ≤ 8) {c : Nat} (hc : I 6 = nI c) (hc8 : c ≤ 8) : MM l g yX6_watch kX6_watch [.ref (A 21), .int pl, .int b] (mW h A I R N) (mPost (o_watch R pl b) h A I R N) (noX) (0) (0) := by
  refine MM.of (by decide) rfl rfl rfl (List.forall_mem_cons.mpr ⟨rfl, List.forall_mem_cons.mpr ⟨rfl, List.forall_mem_cons.mpr ⟨rfl, fun _ h => absurd h List.not_mem_nil⟩⟩⟩) (Nat.le_of_ble_eq_true rfl) ht fun X => ?_
  show Wk _ _ _ _ _ _ _ _ _ [some (.ref (A 21)), some (.int pl), some (.int b), none] _ _
  refine Wk.gen fun PP hPP => ?_
  refine k_al0 dX6_watch_0 ?_
  refine k_cVV0 cvX6_87_5 dX6_watch_1 (mc_X6_begins ht hA) (mW_mo hA) (Nat.le_of_eq (Nat.zero_add _)) (Nat.le_of_eq (Nat.zero_add _)) (fun h_1 e_1 => ?_)
  subst e_1
  refine k_al0 dX6_watch_4 ?_
  refine k_il1 dX6_watch_5 ?_
  refine k_cVI1 cvX6_110_5 dX6_watch_6 (mc_X6_roofAtPlace ht hA _ h1 h18) (mW_mo hA) (Nat.le_of_eq (Nat.zero_add _)) (Nat.le_of_eq (Nat.zero_add _)) (fun r_6 h_6 e_6 => ?_)
  obtain ⟨rfl, rfl⟩ := e_6
  refine k_is3 dX6_watch_9 (Nat.le_of_ble_eq_true rfl) ?_
  refine k_il3 dX6_watch_10 ?_
  refine k_if_ge (tgt := 22) dX6_watch_11 (by decide) (fun c_11 => ?_) (fun c_11 => ?_)
  · obtain ⟨r, hr⟩ := rfo_ge (Int32.not_lt.mpr c_11)
    have hr8 := s_roofAt_lt hr
    refine k_al0 dX6_watch_22 ?_
    refine k_al0 dX6_watch_23 ?_
    refine k_il3 dX6_watch_24 ?_
    refine Wk.top (v' := .int (nI r)) (by rw [hr]; rfl) ?_
    refine k_il2 dX6_watch_25 ?_
    refine k_cVI2 cvX6_127_5 dX6_watch_26 (mc_X6_watches ht hA (by omega) _ h1 h18) (mW_mo hA) (Nat.le_of_eq (Nat.zero_add _)) (Nat.le_of_eq (Nat.zero_add _)) (fun r_26 h_26 e_26 => ?_)
    obtain ⟨rfl, rfl⟩ := e_26
    refine k_cVI1 cvX6_101_5 dX6_watch_29 (mc_X6_keeps ht hA _ (c := c) (by simp [uI]; exact hc) hc8) (mW_mo hA) (Nat.le_of_eq (Nat.zero_add _)) (Nat.le_of_eq (Nat.zero_add _)) (fun r_29 h_29 e_29 => ?_)
    exact k_iret dX6_watch_32 rfl rfl (by obtain ⟨rfl, I', N', hk, rfl⟩ := e_29; rw [hPP, (show o_watch R pl b = oOk (s_with (upd R (12 + 5 * r + 2) (if b = 0 then 0 else 1)) 2) (upd R (12 + 5 * r + 2) (if b = 0 then 0 else 1)) by unfold o_watch; rw [hr])]; exact ⟨_, rfl, rfl, I', N', mOut_ok hk (by simp [uI]) (fun k h5 h7 h8 _ _ _ => by simp [uI, h5, h7, h8]), rfl⟩)
  · refine k_al0 dX6_watch_14 ?_
    refine k_iconst (v := 1) dX6_watch_15 rfl ?_
    refine k_cVI1 cvX6_75_5 dX6_watch_16 (mc_X6_no ht hA _) (mW_mo hA) (Nat.le_of_eq (Nat.zero_add _)) (Nat.le_of_eq (Nat.zero_add _)) (fun r_16 h_16 e_16 => ?_)
    obtain ⟨rfl, rfl⟩ := e_16
    refine k_goto (tgt := 32) dX6_watch_19 (by decide) ?_
    exact k_iret dX6_watch_32 rfl rfl (by rw [hPP, (show o_watch R pl b = oNo 1 R by unfold o_watch; rw [rfo_lt (s_roofAt_b h18) (Int32.not_le.mp (by simpa using c_11))])]; exact ⟨_, rfl, rfl, _, _, mOut_no (by decide) (by simp [uI]) (fun k h5 h7 h8 _ _ _ => by simp [uI, h5, h7, h8]), rfl⟩)
theorem mc_X6_isRefusedWet {l : Launch} (ht : l.stackTraces = false) {g : gT} {h : hp} {A : Nat → Nat} (hA : mOK A) {I R : Nat → Int32} {N : Nat → Nat → Int32} {r : Nat} (hr8 : r < 8) : MM l g yX6_isRefusedWet kX6_isRefusedWet [.ref (A 21), .int (nI r)] (mW h A I R N) (pI fun v_ h' => v_ = bI (decide (R (12 + 5 * r + 3) = 1)) ∧ h' = mW h A (if R (12 + 5 * r + 3) = 1 then uI (uI I 7 8) 8 (R (12 + 5 * r + 0)) else I) R N) (noX) (0) (0) := by
  refine MM.of (by decide) rfl rfl rfl (List.forall_mem_cons.mpr ⟨rfl, List.forall_mem_cons.mpr ⟨rfl, fun _ h => absurd h List.not_mem_nil⟩⟩) (Nat.le_of_ble_eq_true rfl) ht fun X => ?_
  show Wk _ _ _ _ _ _ _ _ _ [some (.ref (A 21)), some (.int (nI r))] _ _
  refine Wk.gen fun PP hPP => ?_
  refine k_al0 dX6_isRefusedWet_0 ?_
  refine k_il1 dX6_isRefusedWet_1 ?_
  refine k_iconst (v := 3) dX6_isRefusedWet_2 rfl ?_
  refine k_cVI2 cvX6_104_5 dX6_isRefusedWet_3 (mc_X6_rv ht hA (by exact rfl) (by exact rfl) (by omega) (by first | decide | omega)) (mW_mo hA) (Nat.le_of_eq (Nat.zero_add _)) (Nat.le_of_eq (Nat.zero_add _)) (fun r_3 h_3 e_3 => ?_)
  obtain ⟨rfl, rfl⟩ := e_3
  refine k_iconst (v := 1) dX6_isRefusedWet_6 rfl ?_
  refine k_icmp_ne (tgt := 29) dX6_isRefusedWet_7 (by decide) (fun c_7 => ?_) (fun c_7 => ?_)
  · refine k_iconst (v := 0) dX6_isRefusedWet_29 rfl ?_
    exact k_iret dX6_isRefusedWet_30 rfl rfl (by rw [hPP]; exact ⟨_, rfl, by rw [decide_eq_false c_7]; rfl, by rw [if_neg c_7]⟩)
  · refine k_al0 dX6_isRefusedWet_10 ?_
    refine k_bipush (v := 8) dX6_isRefusedWet_11 rfl ?_
    refine k_al0 dX6_isRefusedWet_13 ?_
    refine k_il1 dX6_isRefusedWet_14 ?_
    refine k_iconst (v := 0) dX6_isRefusedWet_15 rfl ?_
    refine k_cVI2 cvX6_104_5 dX6_isRefusedWet_16 (mc_X6_rv ht hA (by exact rfl) (by exact rfl) (by omega) (by first | decide | omega)) (mW_mo hA) (Nat.le_of_eq (Nat.zero_add _)) (Nat.le_of_eq (Nat.zero_add _)) (fun r_16 h_16 e_16 => ?_)
    obtain ⟨rfl, rfl⟩ := e_16
    refine k_cVI2 cvX6_113_5 dX6_isRefusedWet_19 (mc_X6_isBad ht hA _ _) (mW_mo hA) (Nat.le_of_eq (Nat.zero_add _)) (Nat.le_of_eq (Nat.zero_add _)) (fun r_19 h_19 e_19 => ?_)
    obtain ⟨rfl, rfl⟩ := e_19
    refine k_if_eq (tgt := 29) dX6_isRefusedWet_22 (by decide) (fun c_22 => absurd c_22 ((by decide))) (fun c_22 => ?_)
    refine k_iconst (v := 1) dX6_isRefusedWet_25 rfl ?_
    refine k_goto (tgt := 30) dX6_isRefusedWet_26 (by decide) ?_
    exact k_iret dX6_isRefusedWet_30 rfl rfl (by rw [hPP]; exact ⟨_, rfl, by rw [decide_eq_true c_7]; rfl, by rw [if_pos c_7]⟩)
theorem mc_X6_wets {l : Launch} (ht : l.stackTraces = false) {g : gT} {h : hp} {A : Nat → Nat} (hA : mOK A) {I R : Nat → Int32} {N : Nat → Nat → Int32} {r : Nat} (hr8 : r < 8) (m : Int32) : MM l g yX6_wets kX6_wets [.ref (A 21), .int (nI r), .int m] (mW h A I R N) (pI fun v_ h' => v_ = s_wets R r m (12 + 5 * r + 1) ∧ h' = mW h A (I) (s_wets R r m) (N)) (noX) (0) (0) := by
  refine MM.of (by decide) rfl rfl rfl (List.forall_mem_cons.mpr ⟨rfl, List.forall_mem_cons.mpr ⟨rfl, List.forall_mem_cons.mpr ⟨rfl, fun _ h => absurd h List.not_mem_nil⟩⟩⟩) (Nat.le_of_ble_eq_true rfl) ht fun X => ?_
  show Wk _ _ _ _ _ _ _ _ _ [some (.ref (A 21)), some (.int (nI r)), some (.int m)] _ _
  refine k_al0 dX6_wets_0 ?_
  refine k_il1 dX6_wets_1 ?_
  refine k_iconst (v := 1) dX6_wets_2 rfl ?_
  refine k_bipush (v := 9) dX6_wets_3 rfl ?_
  refine k_al0 dX6_wets_5 ?_
  refine k_il1 dX6_wets_6 ?_
  refine k_iconst (v := 1) dX6_wets_7 rfl ?_
  refine k_cVI2 cvX6_104_5 dX6_wets_8 (mc_X6_rv ht hA (by exact rfl) (by exact rfl) (by omega) (by first | decide | omega)) (mW_mo hA) (Nat.le_of_eq (Nat.zero_add _)) (Nat.le_of_eq (Nat.zero_add _)) (fun r_8 h_8 e_8 => ?_)
  obtain ⟨rfl, rfl⟩ := e_8
  refine k_il2 dX6_wets_11 ?_
  refine k_iadd dX6_wets_12 ?_
  refine k_cSI2 csX6_131 dX6_wets_13 (mc_X6_least ht _ _) (Nat.le_of_eq (Nat.zero_add _)) (Nat.le_of_eq (Nat.zero_add _)) (fun r_13 h_13 e_13 => ?_)
  obtain ⟨rfl, rfl⟩ := e_13
  refine k_cVV3 cvX6_120_5 dX6_wets_16 (mc_X6_lr ht hA (by exact rfl) (by exact rfl) (by omega) (by decide)) (mW_mo hA) (Nat.le_of_eq (Nat.zero_add _)) (Nat.le_of_eq (Nat.zero_add _)) (fun h_16 e_16 => ?_)
  subst e_16
  refine k_al0 dX6_wets_19 ?_
  refine k_il1 dX6_wets_20 ?_
  refine k_iconst (v := 1) dX6_wets_21 rfl ?_
  refine k_cVI2 cvX6_104_5 dX6_wets_22 (mc_X6_rv ht hA (by exact rfl) (by exact rfl) (by omega) (by first | decide | omega)) (mW_mo hA) (Nat.le_of_eq (Nat.zero_add _)) (Nat.le_of_eq (Nat.zero_add _)) (fun r_22 h_22 e_22 => ?_)
  obtain ⟨rfl, rfl⟩ := e_22
  exact k_iret dX6_wets_25 rfl rfl ⟨_, rfl, by first | rfl | (unfold s_wets; congr 1), by first | rfl | (unfold s_wets; congr 1)⟩
theorem mc_X6_wet {l : Launch} (ht : l.stackTraces = false) {g : gT} {h : hp} {A : Nat → Nat} (hA : mOK A) {I R : Nat → Int32} {N : Nat → Nat → Int32} (pl m : Int32) (h1 : R 1 = nI (nR R)) (h18 : nR R ≤ 8) {c : Nat} (hc : I 6 = nI c) (hc8 : c ≤ 8) : MM l g yX6_wet kX6_wet [.ref (A 21), .int pl, .int m] (mW h A I R N) (mPost (o_wet R pl m) h A I R N) (noX) (0) (0) := by
  refine MM.of (by decide) rfl rfl rfl (List.forall_mem_cons.mpr ⟨rfl, List.forall_mem_cons.mpr ⟨rfl, List.forall_mem_cons.mpr ⟨rfl, fun _ h => absurd h List.not_mem_nil⟩⟩⟩) (Nat.le_of_ble_eq_true rfl) ht fun X => ?_
  show Wk _ _ _ _ _ _ _ _ _ [some (.ref (A 21)), some (.int pl), some (.int m), none] _ _
  refine Wk.gen fun PP hPP => ?_
  refine k_al0 dX6_wet_0 ?_
  refine k_cVV0 cvX6_87_5 dX6_wet_1 (mc_X6_begins ht hA) (mW_mo hA) (Nat.le_of_eq (Nat.zero_add _)) (Nat.le_of_eq (Nat.zero_add _)) (fun h_1 e_1 => ?_)
  subst e_1
  refine k_al0 dX6_wet_4 ?_
  refine k_il1 dX6_wet_5 ?_
  refine k_cVI1 cvX6_110_5 dX6_wet_6 (mc_X6_roofAtPlace ht hA _ h1 h18) (mW_mo hA) (Nat.le_of_eq (Nat.zero_add _)) (Nat.le_of_eq (Nat.zero_add _)) (fun r_6 h_6 e_6 => ?_)
  obtain ⟨rfl, rfl⟩ := e_6
  refine k_is3 dX6_wet_9 (Nat.le_of_ble_eq_true rfl) ?_
  refine k_il3 dX6_wet_10 ?_
  refine k_if_ge (tgt := 20) dX6_wet_11 (by decide) (fun c_11 => ?_) (fun c_11 => ?_)
  · obtain ⟨r, hr⟩ := rfo_ge (Int32.not_lt.mpr c_11)
    have hr8 := s_roofAt_lt hr
    refine k_il2 dX6_wet_20 ?_
    refine k_iconst (v := 1) dX6_wet_21 rfl ?_
    refine k_bipush (v := 9) dX6_wet_22 rfl ?_
    refine k_cSI3 csX6_83 dX6_wet_24 (mc_X6_in ht _ _ _) (Nat.le_of_eq (Nat.zero_add _)) (Nat.le_of_eq (Nat.zero_add _)) (fun r_24 h_24 e_24 => ?_)
    obtain ⟨rfl, rfl⟩ := e_24
    refine k_if_ne (tgt := 36) dX6_wet_27 (by decide) (fun c_27 => ?_) (fun c_27 => ?_)
    · refine k_al0 dX6_wet_36 ?_
      have hm : inB m 1 9 = true := bI_n0.mp c_27
      refine k_il3 dX6_wet_37 ?_
      refine Wk.top (v' := .int (nI r)) (by rw [hr]; rfl) ?_
      refine k_cVI1 cvX6_134_5 dX6_wet_38 (mc_X6_isRefusedWet ht hA (by omega)) (mW_mo hA) (Nat.le_of_eq (Nat.zero_add _)) (Nat.le_of_eq (Nat.zero_add _)) (fun r_38 h_38 e_38 => ?_)
      obtain ⟨rfl, rfl⟩ := e_38
      refine k_if_eq (tgt := 52) dX6_wet_41 (by decide) (fun c_41 => ?_) (fun c_41 => ?_)
      · have hb : ¬ R (12 + 5 * r + 3) = 1 := of_decide_eq_false (bI_0.mp c_41)
        rw [if_neg hb]
        refine k_al0 dX6_wet_52 ?_
        refine k_al0 dX6_wet_53 ?_
        refine k_il3 dX6_wet_54 ?_
        refine Wk.top (v' := .int (nI r)) (by rw [hr]; rfl) ?_
        refine k_il2 dX6_wet_55 ?_
        refine k_cVI2 cvX6_137_5 dX6_wet_56 (mc_X6_wets ht hA (by omega) _) (mW_mo hA) (Nat.le_of_eq (Nat.zero_add _)) (Nat.le_of_eq (Nat.zero_add _)) (fun r_56 h_56 e_56 => ?_)
        obtain ⟨rfl, rfl⟩ := e_56
        refine k_cVI1 cvX6_101_5 dX6_wet_59 (mc_X6_keeps ht hA _ (c := c) (by simp [uI]; exact hc) hc8) (mW_mo hA) (Nat.le_of_eq (Nat.zero_add _)) (Nat.le_of_eq (Nat.zero_add _)) (fun r_59 h_59 e_59 => ?_)
        exact k_iret dX6_wet_62 rfl rfl (by obtain ⟨rfl, I', N', hk, rfl⟩ := e_59; rw [hPP, (show o_wet R pl m = oOk (s_wets R r m (12 + 5 * r + 1)) (s_wets R r m) by unfold o_wet; rw [hr]; simp only; rw [if_neg (by rw [hm]; decide), if_neg hb])]; exact ⟨_, rfl, rfl, I', N', mOut_ok hk (by simp [uI]) (fun k h5 h7 h8 _ _ _ => by simp [uI, h5, h7, h8]), rfl⟩)
      · have hb : R (12 + 5 * r + 3) = 1 := of_decide_eq_true (bI_n0.mp c_41)
        rw [if_pos hb]
        refine k_al0 dX6_wet_44 ?_
        refine k_iconst (v := 3) dX6_wet_45 rfl ?_
        refine k_cVI1 cvX6_117_5 dX6_wet_46 (mc_X6_refused ht hA _) (mW_mo hA) (Nat.le_of_eq (Nat.zero_add _)) (Nat.le_of_eq (Nat.zero_add _)) (fun r_46 h_46 e_46 => ?_)
        obtain ⟨rfl, rfl⟩ := e_46
        refine k_goto (tgt := 62) dX6_wet_49 (by decide) ?_
        exact k_iret dX6_wet_62 rfl rfl (by rw [hPP, (show o_wet R pl m = oRf 3 8 (R (12 + 5 * r + 0)) R by unfold o_wet; rw [hr]; simp only; rw [if_neg (by rw [hm]; decide), if_pos hb])]; exact ⟨_, rfl, rfl, _, _, mOut_rf (by decide) (by simp [uI]) (by simp [uI]) (by simp [uI]) (fun k h5 h7 h8 h9 h10 _ _ _ => by simp [uI, h5, h7, h8, h9, h10]), rfl⟩)
    · refine k_al0 dX6_wet_30 ?_
      refine k_iconst (v := 2) dX6_wet_31 rfl ?_
      refine k_cVI1 cvX6_75_5 dX6_wet_32 (mc_X6_no ht hA _) (mW_mo hA) (Nat.le_of_eq (Nat.zero_add _)) (Nat.le_of_eq (Nat.zero_add _)) (fun r_32 h_32 e_32 => ?_)
      obtain ⟨rfl, rfl⟩ := e_32
      exact k_iret dX6_wet_35 rfl rfl (by rw [hPP, (show o_wet R pl m = oNo 2 R by unfold o_wet; rw [hr]; simp only; rw [if_pos (bI_0.mp (by simpa using c_27))])]; exact ⟨_, rfl, rfl, _, _, mOut_no (by decide) (by simp [uI]) (fun k h5 h7 h8 _ _ _ => by simp [uI, h5, h7, h8]), rfl⟩)
  · refine k_al0 dX6_wet_14 ?_
    refine k_iconst (v := 1) dX6_wet_15 rfl ?_
    refine k_cVI1 cvX6_75_5 dX6_wet_16 (mc_X6_no ht hA _) (mW_mo hA) (Nat.le_of_eq (Nat.zero_add _)) (Nat.le_of_eq (Nat.zero_add _)) (fun r_16 h_16 e_16 => ?_)
    obtain ⟨rfl, rfl⟩ := e_16
    exact k_iret dX6_wet_19 rfl rfl (by rw [hPP, (show o_wet R pl m = oNo 1 R by unfold o_wet; rw [rfo_lt (s_roofAt_b h18) (Int32.not_le.mp (by simpa using c_11))])]; exact ⟨_, rfl, rfl, _, _, mOut_no (by decide) (by simp [uI]) (fun k h5 h7 h8 _ _ _ => by simp [uI, h5, h7, h8]), rfl⟩)
theorem mc_X6_isFlying {l : Launch} (ht : l.stackTraces = false) {g : gT} {h : hp} {A : Nat → Nat} (hA : mOK A) {I R : Nat → Int32} {N : Nat → Nat → Int32} {b : Nat} (hb : b < 20) : MM l g yX6_isFlying kX6_isFlying [.ref (A 21), .int (nI b)] (mW h A I R N) (pI fun v_ h' => v_ = bI (decide (R (52 + 7 * b + 0) = 1)) ∧ h' = mW h A (I) (R) (N)) (noX) (0) (0) := by
  refine MM.of (by decide) rfl rfl rfl (List.forall_mem_cons.mpr ⟨rfl, List.forall_mem_cons.mpr ⟨rfl, fun _ h => absurd h List.not_mem_nil⟩⟩) (Nat.le_of_ble_eq_true rfl) ht fun X => ?_
  show Wk _ _ _ _ _ _ _ _ _ [some (.ref (A 21)), some (.int (nI b))] _ _
  refine k_al0 dX6_isFlying_0 ?_
  refine k_il1 dX6_isFlying_1 ?_
  refine k_iconst (v := 0) dX6_isFlying_2 rfl ?_
  refine k_cVI2 cvX6_140_5 dX6_isFlying_3 (mc_X6_bv ht hA (by exact rfl) (by exact rfl) (by omega) (by first | decide | omega)) (mW_mo hA) (Nat.le_of_eq (Nat.zero_add _)) (Nat.le_of_eq (Nat.zero_add _)) (fun r_3 h_3 e_3 => ?_)
  obtain ⟨rfl, rfl⟩ := e_3
  refine k_iconst (v := 1) dX6_isFlying_6 rfl ?_
  refine k_icmp_ne (tgt := 14) dX6_isFlying_7 (by decide) (fun c_7 => ?_) (fun c_7 => ?_)
  · refine k_iconst (v := 0) dX6_isFlying_14 rfl ?_
    exact k_iret dX6_isFlying_15 rfl rfl ⟨_, rfl, by rw [decide_eq_false c_7]; rfl, rfl⟩
  · refine k_iconst (v := 1) dX6_isFlying_10 rfl ?_
    refine k_goto (tgt := 15) dX6_isFlying_11 (by decide) ?_
    exact k_iret dX6_isFlying_15 rfl rfl ⟨_, rfl, by rw [decide_eq_true c_7]; rfl, rfl⟩
theorem mc_X6_sign {l : Launch} (ht : l.stackTraces = false) {g : gT} {h : hp} {A : Nat → Nat} (hA : mOK A) {I R : Nat → Int32} {N : Nat → Nat → Int32} (pl : Int32) (h1 : R 1 = nI (nR R)) (h18 : nR R ≤ 8) (h2 : R 2 = nI (nB R)) (h28 : nB R ≤ 20) : MM l g yX6_sign kX6_sign [.ref (A 21), .int pl] (mW h A I R N) (mQry (q_sign R pl) h A I R N) (noX) (0) (0) := by
  refine MM.of (by decide) rfl rfl rfl (List.forall_mem_cons.mpr ⟨rfl, List.forall_mem_cons.mpr ⟨rfl, fun _ h => absurd h List.not_mem_nil⟩⟩) (Nat.le_of_ble_eq_true rfl) ht fun X => ?_
  show Wk _ _ _ _ _ _ _ _ _ [some (.ref (A 21)), some (.int pl), none] _ _
  refine Wk.gen fun PP hPP => ?_
  have loop0 : inB pl 0 60 = true → Wk l g X kX6_sign PP noX 0 0 28 [some (.ref (A 21)), some (.int pl), some (.int (nI 0))] [] (mW h A (uI I 5 0) R N) := by
    intro hpl
    have loop : ∀ d i, i + d = nB R → (∀ j, j < i → (R (52 + 7 * j + 0) == 1 && R (52 + 7 * j + 5) == pl) = false) → Wk l g X kX6_sign PP noX 0 0 28 [some (.ref (A 21)), some (.int pl), some (.int (nI i))] [] (mW h A (uI I 5 0) R N) := by
      intro d
      induction d with
      | zero =>
        intro i hid hv
        have hi : i = nB R := by omega
        refine k_il2 dX6_sign_28 ?_
        refine k_al0 dX6_sign_29 ?_
        refine m_g0 hA fgX6_7_5 dX6_sign_30 ?_
        refine k_iconst (v := 2) dX6_sign_33 rfl ?_
        refine m_ldn hA dX6_sign_34 (⟨rfl, by decide⟩ : ixI _ 2) (by decide) ?_
        rw [h2]
        refine k_icmp_ge (tgt := 65) dX6_sign_35 (by decide) (fun c_35 => ?_) (fun c_35 => absurd ((show nI (nB R) ≤ nI i by rw [hi]; exact Int32.le_refl _)) c_35)
        have hno : s_over R pl = none := s_find_none (by rw [← hi]; exact hv)
        refine k_al0 dX6_sign_65 ?_
        refine k_il1 dX6_sign_66 ?_
        refine k_cVI1 cvX6_110_5 dX6_sign_67 (mc_X6_roofAtPlace ht hA _ h1 h18) (mW_mo hA) (Nat.le_of_eq (Nat.zero_add _)) (Nat.le_of_eq (Nat.zero_add _)) (fun r_67 h_67 e_67 => ?_)
        obtain ⟨rfl, rfl⟩ := e_67
        refine k_is2 dX6_sign_70 (Nat.le_of_ble_eq_true rfl) ?_
        refine k_il2 dX6_sign_71 ?_
        refine k_if_ge (tgt := 78) dX6_sign_72 (by decide) (fun c_72 => ?_) (fun c_72 => ?_)
        · obtain ⟨r, hr⟩ := rfo_ge (Int32.not_lt.mpr c_72)
          have hr8 := s_roofAt_lt hr
          refine k_al0 dX6_sign_78 ?_
          refine k_il2 dX6_sign_79 ?_
          refine Wk.top (v' := .int (nI r)) (by rw [hr]; rfl) ?_
          refine k_iconst (v := 3) dX6_sign_80 rfl ?_
          refine k_cVI2 cvX6_104_5 dX6_sign_81 (mc_X6_rv ht hA (by exact rfl) (by exact rfl) (by omega) (by first | decide | omega)) (mW_mo hA) (Nat.le_of_eq (Nat.zero_add _)) (Nat.le_of_eq (Nat.zero_add _)) (fun r_81 h_81 e_81 => ?_)
          obtain ⟨rfl, rfl⟩ := e_81
          refine k_iconst (v := 1) dX6_sign_84 rfl ?_
          refine k_icmp_ne (tgt := 93) dX6_sign_85 (by decide) (fun c_85 => ?_) (fun c_85 => ?_)
          · refine k_al0 dX6_sign_93 ?_
            refine k_il2 dX6_sign_94 ?_
            refine Wk.top (v' := .int (nI r)) (by rw [hr]; rfl) ?_
            refine k_iconst (v := 2) dX6_sign_95 rfl ?_
            refine k_cVI2 cvX6_104_5 dX6_sign_96 (mc_X6_rv ht hA (by exact rfl) (by exact rfl) (by omega) (by first | decide | omega)) (mW_mo hA) (Nat.le_of_eq (Nat.zero_add _)) (Nat.le_of_eq (Nat.zero_add _)) (fun r_96 h_96 e_96 => ?_)
            obtain ⟨rfl, rfl⟩ := e_96
            refine k_iconst (v := 1) dX6_sign_99 rfl ?_
            refine k_icmp_ne (tgt := 108) dX6_sign_100 (by decide) (fun c_100 => ?_) (fun c_100 => ?_)
            · refine k_bipush (v := 114) dX6_sign_108 rfl ?_
              exact k_iret dX6_sign_110 rfl rfl (by rw [hPP, show q_sign R pl = (0, 114) from (by unfold q_sign; rw [if_neg (by rw [hpl]; decide), hno, if_neg (by simp), hr]; simp only; rw [if_neg c_85, if_neg c_100])]; exact ⟨_, rfl, rfl, by first | rfl | rw [uI_uI]⟩)
            · refine k_bipush (v := 82) dX6_sign_103 rfl ?_
              refine k_goto (tgt := 110) dX6_sign_105 (by decide) ?_
              exact k_iret dX6_sign_110 rfl rfl (by rw [hPP, show q_sign R pl = (0, 82) from (by unfold q_sign; rw [if_neg (by rw [hpl]; decide), hno, if_neg (by simp), hr]; simp only; rw [if_neg c_85, if_pos c_100])]; exact ⟨_, rfl, rfl, by first | rfl | rw [uI_uI]⟩)
          · refine k_bipush (v := 120) dX6_sign_88 rfl ?_
            refine k_goto (tgt := 110) dX6_sign_90 (by decide) ?_
            exact k_iret dX6_sign_110 rfl rfl (by rw [hPP, show q_sign R pl = (0, 120) from (by unfold q_sign; rw [if_neg (by rw [hpl]; decide), hno, if_neg (by simp), hr]; simp only; rw [if_pos c_85])]; exact ⟨_, rfl, rfl, by first | rfl | rw [uI_uI]⟩)
        · refine k_bipush (v := 46) dX6_sign_75 rfl ?_
          exact k_iret dX6_sign_77 rfl rfl (by rw [hPP, show q_sign R pl = (0, 46) from (by unfold q_sign; rw [if_neg (by rw [hpl]; decide), hno, if_neg (by simp), rfo_lt (s_roofAt_b h18) (Int32.not_le.mp (by simpa using c_72))])]; exact ⟨_, rfl, rfl, by first | rfl | rw [uI_uI]⟩)
      | succ d ih =>
        intro i hid hv
        have hi : i < nB R := by omega
        refine k_il2 dX6_sign_28 ?_
        refine k_al0 dX6_sign_29 ?_
        refine m_g0 hA fgX6_7_5 dX6_sign_30 ?_
        refine k_iconst (v := 2) dX6_sign_33 rfl ?_
        refine m_ldn hA dX6_sign_34 (⟨rfl, by decide⟩ : ixI _ 2) (by decide) ?_
        rw [h2]
        refine k_icmp_ge (tgt := 65) dX6_sign_35 (by decide) (fun c_35 => absurd c_35 (nI_ge hi (by omega))) (fun c_35 => ?_)
        refine k_al0 dX6_sign_38 ?_
        refine k_il2 dX6_sign_39 ?_
        refine k_cVI1 cvX6_143_5 dX6_sign_40 (mc_X6_isFlying ht hA (by omega)) (mW_mo hA) (Nat.le_of_eq (Nat.zero_add _)) (Nat.le_of_eq (Nat.zero_add _)) (fun r_40 h_40 e_40 => ?_)
        obtain ⟨rfl, rfl⟩ := e_40
        refine k_if_eq (tgt := 59) dX6_sign_43 (by decide) (fun c_43 => ?_) (fun c_43 => ?_)
        · refine k_ic2 (v := nI (i + 1)) dX6_sign_59 (nI_1 i) (Nat.le_of_ble_eq_true rfl) ?_
          refine k_goto (tgt := 28) dX6_sign_62 (by decide) ?_
          exact ih (i + 1) (by omega) (lt_s hv (by first | (have hf := of_decide_eq_false (bI_0.mp c_43); simp only [Nat.add_zero] at hf ⊢; simp [hf]; done) | (simp [show ¬ R (52 + 7 * i + 5) = pl by simpa using c_53]; done)))
        · refine k_al0 dX6_sign_46 ?_
          refine k_il2 dX6_sign_47 ?_
          refine k_iconst (v := 5) dX6_sign_48 rfl ?_
          refine k_cVI2 cvX6_140_5 dX6_sign_49 (mc_X6_bv ht hA (by exact rfl) (by exact rfl) (by omega) (by first | decide | omega)) (mW_mo hA) (Nat.le_of_eq (Nat.zero_add _)) (Nat.le_of_eq (Nat.zero_add _)) (fun r_49 h_49 e_49 => ?_)
          obtain ⟨rfl, rfl⟩ := e_49
          refine k_il1 dX6_sign_52 ?_
          refine k_icmp_ne (tgt := 59) dX6_sign_53 (by decide) (fun c_53 => ?_) (fun c_53 => ?_)
          · refine k_ic2 (v := nI (i + 1)) dX6_sign_59 (nI_1 i) (Nat.le_of_ble_eq_true rfl) ?_
            refine k_goto (tgt := 28) dX6_sign_62 (by decide) ?_
            exact ih (i + 1) (by omega) (lt_s hv (by first | (have hf := of_decide_eq_false (bI_0.mp c_43); simp only [Nat.add_zero] at hf ⊢; simp [hf]; done) | (simp [show ¬ R (52 + 7 * i + 5) = pl by simpa using c_53]; done)))
          · refine k_bipush (v := 111) dX6_sign_56 rfl ?_
            exact k_iret dX6_sign_58 rfl rfl (by rw [hPP, show q_sign R pl = (0, 111) from (by unfold q_sign; rw [if_neg (by rw [hpl]; decide), show s_over R pl = some i from s_find_some hi (by have hf := of_decide_eq_true (bI_n0.mp c_43); have hg : R (52 + 7 * i + 5) = pl := (by simpa using c_53); simp only [Nat.add_zero] at hf ⊢; simp [hf, hg]) hv]; rfl)]; exact ⟨_, rfl, rfl, by first | rfl | rw [uI_uI]⟩)
    exact loop (nB R) 0 (by omega) lt_0
  refine k_al0 dX6_sign_0 ?_
  refine k_il1 dX6_sign_1 ?_
  refine k_cSI1 csX6_107 dX6_sign_2 (mc_X6_isPlace ht _) (Nat.le_of_eq (Nat.zero_add _)) (Nat.le_of_eq (Nat.zero_add _)) (fun r_2 h_2 e_2 => ?_)
  obtain ⟨rfl, rfl⟩ := e_2
  refine k_if_eq (tgt := 12) dX6_sign_5 (by decide) (fun c_5 => ?_) (fun c_5 => ?_)
  · refine k_iconst (v := 1) dX6_sign_12 rfl ?_
    refine m_p5 hA fpX6_25_5 dX6_sign_13 ?_
    refine k_al0 dX6_sign_16 ?_
    refine m_g5 hA fgX6_25_5 dX6_sign_17 ?_
    refine k_if_le (tgt := 26) dX6_sign_20 (by decide) (fun c_20 => absurd c_20 ((by rw [uI_s]; decide))) (fun c_20 => ?_)
    refine k_bipush (v := 32) dX6_sign_23 rfl ?_
    exact k_iret dX6_sign_25 rfl rfl (by rw [hPP, show q_sign R pl = (1, 32) from (by unfold q_sign; rw [if_pos (bI_0.mp c_5)])]; exact ⟨_, rfl, rfl, by first | rfl | rw [uI_uI]⟩)
  · refine k_iconst (v := 0) dX6_sign_8 rfl ?_
    refine k_goto (tgt := 13) dX6_sign_9 (by decide) ?_
    refine m_p5 hA fpX6_25_5 dX6_sign_13 ?_
    refine k_al0 dX6_sign_16 ?_
    refine m_g5 hA fgX6_25_5 dX6_sign_17 ?_
    refine k_if_le (tgt := 26) dX6_sign_20 (by decide) (fun c_20 => ?_) (fun c_20 => absurd ((by rw [uI_s]; decide)) c_20)
    refine k_iconst (v := 0) dX6_sign_26 rfl ?_
    refine k_is2 dX6_sign_27 (Nat.le_of_ble_eq_true rfl) ?_
    exact loop0 (bI_n0.mp c_5)
