/-! THE MODEL: contracts of its methods, 6 (printed by tools/mk_model6.py) -/
set_option maxRecDepth 100000
theorem cvX6_170_5 : CVs "TissueBalloonsModel" 170 5 yX6_lp kX6_lp 3 := ⟨⟨TX6, 21, rfl⟩, q3343, q3345, qs58, q100, q3346, ⟨by decide, by decide⟩, rfl⟩
theorem cvX6_173_5 : CVs "TissueBalloonsModel" 173 5 yX6_movesPlan kX6_movesPlan 2 := ⟨⟨TX6, 21, rfl⟩, q3339, q3341, qs57, q100, q3342, ⟨by decide, by decide⟩, rfl⟩
theorem cvX6_177_5 : CVs "TissueBalloonsModel" 177 5 yX6_planOf kX6_planOf 1 := ⟨⟨TX6, 21, rfl⟩, q3327, q3329, qs54, q100, q3330, ⟨by decide, by decide⟩, rfl⟩
theorem cvX6_180_5 : CVs "TissueBalloonsModel" 180 5 yX6_isRefusedPlan kX6_isRefusedPlan 2 := ⟨⟨TX6, 21, rfl⟩, q3323, q3325, qs53, q100, q3326, ⟨by decide, by decide⟩, rfl⟩
theorem cvX6_183_5 : CVs "TissueBalloonsModel" 183 5 yX6_plans kX6_plans 3 := ⟨⟨TX6, 21, rfl⟩, q3335, q3337, qs56, q100, q3338, ⟨by decide, by decide⟩, rfl⟩
theorem cvX6_187_5 : CVs "TissueBalloonsModel" 187 5 yX6_planGoes kX6_planGoes 1 := ⟨⟨TX6, 21, rfl⟩, q3351, q3353, qs59, q100, q3354, ⟨by decide, by decide⟩, rfl⟩
theorem mc_X6_planOf {l : Launch} (ht : l.stackTraces = false) {g : gT} {h : hp} {A : Nat → Nat} (hA : mOK A) {I R : Nat → Int32} {N : Nat → Nat → Int32} (b : Nat) (h4 : R 4 = nI (nP R)) (h48 : nP R ≤ 6) : MM l g yX6_planOf kX6_planOf [.ref (A 21), .int (nI b)] (mW h A I R N) (pI fun v_ h' => v_ = rfo (s_planOf R b) ∧ h' = mW h A I R N) (noX) (0) (0) := by
  refine MM.of (by decide) rfl rfl rfl (List.forall_mem_cons.mpr ⟨rfl, List.forall_mem_cons.mpr ⟨rfl, fun _ h => absurd h List.not_mem_nil⟩⟩) (Nat.le_of_ble_eq_true rfl) ht fun X => ?_
  show Wk _ _ _ _ _ _ _ _ _ [some (.ref (A 21)), some (.int (nI b)), none] _ _
  refine Wk.gen fun PP hPP => ?_
  have loop : ∀ d i, i + d = nP R → (∀ j, j < i → (R (204 + 3 * j) == nI b) = false) → Wk l g X kX6_planOf PP noX 0 0 2 [some (.ref (A 21)), some (.int (nI b)), some (.int (nI i))] [] (mW h A I R N) := by
    intro d
    induction d with
    | zero =>
      intro i hid hv
      have hi : i = nP R := by omega
      refine k_il2 dX6_planOf_2 ?_
      refine k_al0 dX6_planOf_3 ?_
      refine m_g0 hA fgX6_7_5 dX6_planOf_4 ?_
      refine k_iconst (v := 4) dX6_planOf_7 rfl ?_
      refine m_ldn hA dX6_planOf_8 (⟨rfl, by decide⟩ : ixI _ 4) (by decide) ?_
      rw [h4]
      refine k_icmp_ge (tgt := 30) dX6_planOf_9 (by decide) (fun c_9 => ?_) (fun c_9 => absurd ((show nI (nP R) ≤ nI i by rw [hi]; exact Int32.le_refl _)) c_9)
      refine k_iconst (v := (-1)) dX6_planOf_30 rfl ?_
      exact k_iret dX6_planOf_31 rfl rfl (by rw [hPP]; exact ⟨_, rfl, by unfold s_planOf; rw [s_find_none (by rw [← hi]; exact hv)]; rfl, rfl⟩)
    | succ d ih =>
      intro i hid hv
      have hi : i < nP R := by omega
      refine k_il2 dX6_planOf_2 ?_
      refine k_al0 dX6_planOf_3 ?_
      refine m_g0 hA fgX6_7_5 dX6_planOf_4 ?_
      refine k_iconst (v := 4) dX6_planOf_7 rfl ?_
      refine m_ldn hA dX6_planOf_8 (⟨rfl, by decide⟩ : ixI _ 4) (by decide) ?_
      rw [h4]
      refine k_icmp_ge (tgt := 30) dX6_planOf_9 (by decide) (fun c_9 => absurd c_9 (nI_ge hi (by omega))) (fun c_9 => ?_)
      refine k_al0 dX6_planOf_12 ?_
      refine k_il2 dX6_planOf_13 ?_
      refine k_iconst (v := 0) dX6_planOf_14 rfl ?_
      refine k_cVI2 cvX6_167_5 dX6_planOf_15 (mc_X6_pv ht hA (j := 0) (by exact rfl) rfl (by omega) (by decide)) (mW_mo hA) (Nat.le_of_eq (Nat.zero_add _)) (Nat.le_of_eq (Nat.zero_add _)) (fun r_15 h_15 e_15 => ?_)
      obtain ⟨rfl, rfl⟩ := e_15
      refine k_il1 dX6_planOf_18 ?_
      refine k_icmp_ne (tgt := 24) dX6_planOf_19 (by decide) (fun c_19 => ?_) (fun c_19 => ?_)
      · refine k_ic2 (v := nI (i + 1)) dX6_planOf_24 (nI_1 i) (Nat.le_of_ble_eq_true rfl) ?_
        refine k_goto (tgt := 2) dX6_planOf_27 (by decide) ?_
        exact ih (i + 1) (by omega) (lt_s hv (by simpa using c_19))
      · refine k_il2 dX6_planOf_22 ?_
        exact k_iret dX6_planOf_23 rfl rfl (by rw [hPP]; exact ⟨_, rfl, by unfold s_planOf; rw [s_find_some hi (by simpa using c_19) hv]; rfl, rfl⟩)
  refine k_iconst (v := 0) dX6_planOf_0 rfl ?_
  refine k_is2 dX6_planOf_1 (Nat.le_of_ble_eq_true rfl) ?_
  exact loop (nP R) 0 (by omega) lt_0
theorem mc_X6_movesPlan {l : Launch} (ht : l.stackTraces = false) {g : gT} {h : hp} {A : Nat → Nat} (hA : mOK A) {I R : Nat → Int32} {N : Nat → Nat → Int32} {f t : Nat} (hf : f < 6) (htt : t < 6) (hft : f ≠ t) : MM l g yX6_movesPlan kX6_movesPlan [.ref (A 21), .int (nI f), .int (nI t)] (mW h A I R N) (pV fun h' => h' = mW h A I (s_mv R f t 3) N) (noX) (0) (0) := by
  refine MM.of (by decide) rfl rfl rfl (List.forall_mem_cons.mpr ⟨rfl, List.forall_mem_cons.mpr ⟨rfl, List.forall_mem_cons.mpr ⟨rfl, fun _ h => absurd h List.not_mem_nil⟩⟩⟩) (Nat.le_of_ble_eq_true rfl) ht fun X => ?_
  show Wk _ _ _ _ _ _ _ _ _ [some (.ref (A 21)), some (.int (nI f)), some (.int (nI t)), none] _ _
  refine Wk.gen fun PP hPP => ?_
  have loop : ∀ d i, i + d = 3 → Wk l g X kX6_movesPlan PP noX 0 0 2 [some (.ref (A 21)), some (.int (nI f)), some (.int (nI t)), some (.int (nI i))] [] (mW h A I (s_mv R f t i) N) := by
    intro d
    induction d with
    | zero =>
      intro i hid 
      have hi : i = 3 := by omega
      refine k_il3 dX6_movesPlan_2 ?_
      refine k_iconst (v := 3) dX6_movesPlan_3 rfl ?_
      refine k_icmp_ge (tgt := 25) dX6_movesPlan_4 (by decide) (fun c_4 => ?_) (fun c_4 => absurd ((show (3 : Int32) ≤ nI i by rw [hi]; decide)) c_4)
      exact k_vret dX6_movesPlan_25 rfl (by rw [hPP, hi]; exact ⟨rfl, rfl⟩)
    | succ d ih =>
      intro i hid 
      have hi : i < 3 := by omega
      refine k_il3 dX6_movesPlan_2 ?_
      refine k_iconst (v := 3) dX6_movesPlan_3 rfl ?_
      refine k_icmp_ge (tgt := 25) dX6_movesPlan_4 (by decide) (fun c_4 => absurd c_4 ((show ¬ (3 : Int32) ≤ nI i from nI_ge hi (by decide)))) (fun c_4 => ?_)
      refine k_al0 dX6_movesPlan_7 ?_
      refine k_il2 dX6_movesPlan_8 ?_
      refine k_il3 dX6_movesPlan_9 ?_
      refine k_al0 dX6_movesPlan_10 ?_
      refine k_il1 dX6_movesPlan_11 ?_
      refine k_il3 dX6_movesPlan_12 ?_
      refine k_cVI2 cvX6_167_5 dX6_movesPlan_13 (mc_X6_pv ht hA (r := f) (j := i) rfl rfl hf hi) (mW_mo hA) (Nat.le_of_eq (Nat.zero_add _)) (Nat.le_of_eq (Nat.zero_add _)) (fun r_13 h_13 e_13 => ?_)
      obtain ⟨rfl, rfl⟩ := e_13
      refine k_cVV3 cvX6_170_5 dX6_movesPlan_16 (mc_X6_lp ht hA (r := t) (j := i) rfl rfl htt hi) (mW_mo hA) (Nat.le_of_eq (Nat.zero_add _)) (Nat.le_of_eq (Nat.zero_add _)) (fun h_16 e_16 => ?_)
      subst e_16
      rw [s_mv_s hft hi]
      refine k_ic3 (v := nI (i + 1)) dX6_movesPlan_19 (nI_1 i) (Nat.le_of_ble_eq_true rfl) ?_
      refine k_goto (tgt := 2) dX6_movesPlan_22 (by decide) ?_
      exact ih (i + 1) (by omega)
  refine k_iconst (v := 0) dX6_movesPlan_0 rfl ?_
  refine k_is3 dX6_movesPlan_1 (Nat.le_of_ble_eq_true rfl) ?_
  have hz := loop 3 0 rfl
  rw [s_mv_0] at hz
  exact hz
theorem mc_X6_planGoes {l : Launch} (ht : l.stackTraces = false) {g : gT} {h : hp} {A : Nat → Nat} (hA : mOK A) {I R : Nat → Int32} {N : Nat → Nat → Int32} {p : Nat} (hp1 : p < nP R) (h4 : R 4 = nI (nP R)) (h48 : nP R ≤ 6) : MM l g yX6_planGoes kX6_planGoes [.ref (A 21), .int (nI p)] (mW h A I R N) (pV fun h' => h' = mW h A I (s_planGoes R p) N) (noX) (0) (0) := by
  refine MM.of (by decide) rfl rfl rfl (List.forall_mem_cons.mpr ⟨rfl, List.forall_mem_cons.mpr ⟨rfl, fun _ h => absurd h List.not_mem_nil⟩⟩) (Nat.le_of_ble_eq_true rfl) ht fun X => ?_
  show Wk _ _ _ _ _ _ _ _ _ [some (.ref (A 21)), some (.int (nI p)), none] _ _
  obtain ⟨n, hn⟩ : ∃ n, nP R = n + 1 := ⟨nP R - 1, by omega⟩
  have hp : p ≤ n := by omega
  refine Wk.gen fun PP hPP => ?_
  have loop2 : ∀ d i, i + d = 3 → Wk l g X kX6_planGoes PP noX 0 0 38 [some (.ref (A 21)), some (.int (nI p)), some (.int (nI i))] [] (mW h A I (s_pg R p n i) N) := by
    intro d
    induction d with
    | zero =>
      intro i hid 
      have hi : i = 3 := by omega
      refine k_il2 dX6_planGoes_38 ?_
      refine k_iconst (v := 3) dX6_planGoes_39 rfl ?_
      refine k_icmp_ge (tgt := 61) dX6_planGoes_40 (by decide) (fun c_40 => ?_) (fun c_40 => absurd ((show (3 : Int32) ≤ nI i by rw [hi]; decide)) c_40)
      exact k_vret dX6_planGoes_61 rfl (by rw [hPP, hi, s_pg_end hn hp]; exact ⟨rfl, rfl⟩)
    | succ d ih =>
      intro i hid 
      have hi : i < 3 := by omega
      refine k_il2 dX6_planGoes_38 ?_
      refine k_iconst (v := 3) dX6_planGoes_39 rfl ?_
      refine k_icmp_ge (tgt := 61) dX6_planGoes_40 (by decide) (fun c_40 => absurd c_40 ((show ¬ (3 : Int32) ≤ nI i from nI_ge hi (by decide)))) (fun c_40 => ?_)
      refine k_al0 dX6_planGoes_43 ?_
      refine k_al0 dX6_planGoes_44 ?_
      refine m_g0 hA fgX6_7_5 dX6_planGoes_45 ?_
      refine k_iconst (v := 4) dX6_planGoes_48 rfl ?_
      refine m_ldn hA dX6_planGoes_49 (⟨rfl, by decide⟩ : ixI _ 4) (by decide) ?_
      refine Wk.top (v' := .int (nI n)) (congrArg Value.int (by unfold s_pg; rw [if_pos rfl, h4, hn, nI_pred])) ?_
      refine k_il2 dX6_planGoes_50 ?_
      refine k_iconst (v := 0) dX6_planGoes_51 rfl ?_
      refine k_cVV3 cvX6_170_5 dX6_planGoes_52 (mc_X6_lp ht hA (r := n) (j := i) rfl rfl (by omega) hi) (mW_mo hA) (Nat.le_of_eq (Nat.zero_add _)) (Nat.le_of_eq (Nat.zero_add _)) (fun h_52 e_52 => ?_)
      subst e_52
      rw [s_pg_k hp]
      refine k_ic2 (v := nI (i + 1)) dX6_planGoes_55 (nI_1 i) (Nat.le_of_ble_eq_true rfl) ?_
      refine k_goto (tgt := 38) dX6_planGoes_58 (by decide) ?_
      exact ih (i + 1) (by omega)
  have loop : ∀ d i, i + d = n → (p ≤ i) → Wk l g X kX6_planGoes PP noX 0 0 12 [some (.ref (A 21)), some (.int (nI p)), some (.int (nI i))] [] (mW h A I (s_pg R p i 0) N) := by
    intro d
    induction d with
    | zero =>
      intro i hid hpi
      have hi : i = n := by omega
      refine k_il2 dX6_planGoes_12 ?_
      refine k_al0 dX6_planGoes_13 ?_
      refine m_g0 hA fgX6_7_5 dX6_planGoes_14 ?_
      refine k_iconst (v := 4) dX6_planGoes_17 rfl ?_
      refine m_ldn hA dX6_planGoes_18 (⟨rfl, by decide⟩ : ixI _ 4) (by decide) ?_
      refine Wk.top (v' := .int (nI n)) (congrArg Value.int (by unfold s_pg; rw [if_pos rfl, h4, hn, nI_pred])) ?_
      refine k_icmp_ge (tgt := 36) dX6_planGoes_19 (by decide) (fun c_19 => ?_) (fun c_19 => absurd ((show nI n ≤ nI i by rw [hi]; exact Int32.le_refl _)) c_19)
      refine k_iconst (v := 0) dX6_planGoes_36 rfl ?_
      refine k_is2 dX6_planGoes_37 (Nat.le_of_ble_eq_true rfl) ?_
      subst hi
      exact loop2 3 0 rfl
    | succ d ih =>
      intro i hid hpi
      have hi : i < n := by omega
      refine k_il2 dX6_planGoes_12 ?_
      refine k_al0 dX6_planGoes_13 ?_
      refine m_g0 hA fgX6_7_5 dX6_planGoes_14 ?_
      refine k_iconst (v := 4) dX6_planGoes_17 rfl ?_
      refine m_ldn hA dX6_planGoes_18 (⟨rfl, by decide⟩ : ixI _ 4) (by decide) ?_
      refine Wk.top (v' := .int (nI n)) (congrArg Value.int (by unfold s_pg; rw [if_pos rfl, h4, hn, nI_pred])) ?_
      refine k_icmp_ge (tgt := 36) dX6_planGoes_19 (by decide) (fun c_19 => absurd c_19 (nI_ge hi (by omega))) (fun c_19 => ?_)
      refine k_al0 dX6_planGoes_22 ?_
      refine k_il2 dX6_planGoes_23 ?_
      refine k_iconst (v := 1) dX6_planGoes_24 rfl ?_
      refine k_iadd dX6_planGoes_25 ?_
      refine Wk.top (v' := .int (nI (i + 1))) (congrArg Value.int (nI_1 i)) ?_
      refine k_il2 dX6_planGoes_26 ?_
      refine k_cVV2 cvX6_173_5 dX6_planGoes_27 (mc_X6_movesPlan ht hA (f := i + 1) (t := i) (by omega) (by omega) (by omega)) (mW_mo hA) (Nat.le_of_eq (Nat.zero_add _)) (Nat.le_of_eq (Nat.zero_add _)) (fun h_27 e_27 => ?_)
      subst e_27
      rw [s_pg_o hpi]
      refine k_ic2 (v := nI (i + 1)) dX6_planGoes_30 (nI_1 i) (Nat.le_of_ble_eq_true rfl) ?_
      refine k_goto (tgt := 12) dX6_planGoes_33 (by decide) ?_
      exact ih (i + 1) (by omega) (by omega)
  refine k_al0 dX6_planGoes_0 ?_
  refine m_g0 hA fgX6_7_5 dX6_planGoes_1 ?_
  refine k_iconst (v := 4) dX6_planGoes_4 rfl ?_
  refine k_dup2 dX6_planGoes_5 ?_
  refine m_ldn hA dX6_planGoes_6 (⟨rfl, by decide⟩ : ixI _ 4) (by decide) ?_
  refine k_iconst (v := 1) dX6_planGoes_7 rfl ?_
  refine k_isub dX6_planGoes_8 ?_
  refine m_stn hA dX6_planGoes_9 (⟨rfl, by decide⟩ : ixI _ 4) (by decide) ?_
  rw [s_pg_0 (p := p)]
  refine k_il1 dX6_planGoes_10 ?_
  refine k_is2 dX6_planGoes_11 (Nat.le_of_ble_eq_true rfl) ?_
  exact loop (n - p) p (by omega) (Nat.le_refl _)
theorem s_planOf_lt {R : Row} {b p : Nat} (h : s_planOf R b = some p) : p < nP R := (s_find_is h).1
theorem s_planOf_b {R : Row} {b : Nat} (h48 : nP R ≤ 6) : ∀ r, s_planOf R b = some r → r < 2 ^ 31 := fun r h => by have := s_planOf_lt h; omega
theorem mc_X6_isRefusedPlan {l : Launch} (ht : l.stackTraces = false) {g : gT} {h : hp} {A : Nat → Nat} (hA : mOK A) {I R : Nat → Int32} {N : Nat → Nat → Int32} {b : Nat} (hb : b < 20) (m : Int32) (h4 : R 4 = nI (nP R)) (h48 : nP R ≤ 6) : MM l g yX6_isRefusedPlan kX6_isRefusedPlan [.ref (A 21), .int (nI b), .int m] (mW h A I R N) (pI fun v_ h' => v_ = bI (s_refP R b m).isSome ∧ h' = mW h A (mWhy I (s_refP R b m)) R N) (noX) (0) (0) := by
  refine MM.of (by decide) rfl rfl rfl (List.forall_mem_cons.mpr ⟨rfl, List.forall_mem_cons.mpr ⟨rfl, List.forall_mem_cons.mpr ⟨rfl, fun _ h => absurd h List.not_mem_nil⟩⟩⟩) (Nat.le_of_ble_eq_true rfl) ht fun X => ?_
  show Wk _ _ _ _ _ _ _ _ _ [some (.ref (A 21)), some (.int (nI b)), some (.int m)] _ _
  refine Wk.gen fun PP hPP => ?_
  refine k_al0 dX6_isRefusedPlan_0 ?_
  refine m_g0 hA fgX6_7_5 dX6_isRefusedPlan_1 ?_
  refine k_iconst (v := 4) dX6_isRefusedPlan_4 rfl ?_
  refine m_ldn hA dX6_isRefusedPlan_5 (⟨rfl, by decide⟩ : ixI _ 4) (by decide) ?_
  refine k_bipush (v := 6) dX6_isRefusedPlan_6 rfl ?_
  refine k_icmp_ne (tgt := 19) dX6_isRefusedPlan_8 (by decide) (fun c_8 => ?_) (fun c_8 => ?_)
  · refine k_al0 dX6_isRefusedPlan_19 ?_
    refine k_il1 dX6_isRefusedPlan_20 ?_
    refine k_iconst (v := 0) dX6_isRefusedPlan_21 rfl ?_
    refine k_cVI2 cvX6_140_5 dX6_isRefusedPlan_22 (mc_X6_bv ht hA (j := 0) (by exact rfl) rfl (by omega) (by decide)) (mW_mo hA) (Nat.le_of_eq (Nat.zero_add _)) (Nat.le_of_eq (Nat.zero_add _)) (fun r_22 h_22 e_22 => ?_)
    obtain ⟨rfl, rfl⟩ := e_22
    refine k_if_eq (tgt := 40) dX6_isRefusedPlan_25 (by decide) (fun c_25 => ?_) (fun c_25 => ?_)
    · refine k_al0 dX6_isRefusedPlan_40 ?_
      refine k_il1 dX6_isRefusedPlan_41 ?_
      refine k_cVI1 cvX6_177_5 dX6_isRefusedPlan_42 (mc_X6_planOf ht hA b h4 h48) (mW_mo hA) (Nat.le_of_eq (Nat.zero_add _)) (Nat.le_of_eq (Nat.zero_add _)) (fun r_42 h_42 e_42 => ?_)
      obtain ⟨rfl, rfl⟩ := e_42
      refine k_if_lt (tgt := 65) dX6_isRefusedPlan_45 (by decide) (fun c_45 => ?_) (fun c_45 => ?_)
      · have hno : s_planOf R b = none := rfo_lt (s_planOf_b h48) c_45
        refine k_il2 dX6_isRefusedPlan_65 ?_
        refine k_al0 dX6_isRefusedPlan_66 ?_
        refine m_g0 hA fgX6_7_5 dX6_isRefusedPlan_67 ?_
        refine k_iconst (v := 0) dX6_isRefusedPlan_70 rfl ?_
        refine m_ldn hA dX6_isRefusedPlan_71 (⟨rfl, by decide⟩ : ixI _ 0) (by decide) ?_
        refine k_icmp_ge (tgt := 94) dX6_isRefusedPlan_72 (by decide) (fun c_72 => ?_) (fun c_72 => ?_)
        · refine k_iconst (v := 0) dX6_isRefusedPlan_94 rfl ?_
          exact k_iret dX6_isRefusedPlan_95 rfl rfl (by rw [hPP, show s_refP R b m = none by unfold s_refP; rw [if_neg c_8, if_neg (by simpa using c_25), hno]; simp only; rw [if_neg (Int32.not_lt.mpr c_72)]]; exact ⟨_, rfl, rfl, rfl⟩)
        · refine k_al0 dX6_isRefusedPlan_75 ?_
          refine k_bipush (v := 7) dX6_isRefusedPlan_76 rfl ?_
          refine k_al0 dX6_isRefusedPlan_78 ?_
          refine m_g0 hA fgX6_7_5 dX6_isRefusedPlan_79 ?_
          refine k_iconst (v := 0) dX6_isRefusedPlan_82 rfl ?_
          refine m_ldn hA dX6_isRefusedPlan_83 (⟨rfl, by decide⟩ : ixI _ 0) (by decide) ?_
          refine k_cVI2 cvX6_113_5 dX6_isRefusedPlan_84 (mc_X6_isBad ht hA _ _) (mW_mo hA) (Nat.le_of_eq (Nat.zero_add _)) (Nat.le_of_eq (Nat.zero_add _)) (fun r_84 h_84 e_84 => ?_)
          obtain ⟨rfl, rfl⟩ := e_84
          refine k_if_eq (tgt := 94) dX6_isRefusedPlan_87 (by decide) (fun c_87 => absurd c_87 ((by decide))) (fun c_87 => ?_)
          refine k_iconst (v := 1) dX6_isRefusedPlan_90 rfl ?_
          refine k_goto (tgt := 95) dX6_isRefusedPlan_91 (by decide) ?_
          exact k_iret dX6_isRefusedPlan_95 rfl rfl (by rw [hPP, show s_refP R b m = some (7, R 0) by unfold s_refP; rw [if_neg c_8, if_neg (by simpa using c_25), hno]; simp only; rw [if_pos (Int32.not_le.mp c_72)]]; exact ⟨_, rfl, rfl, rfl⟩)
      · obtain ⟨p, hp⟩ := rfo_ge c_45
        have hp6 := s_planOf_lt hp
        refine k_al0 dX6_isRefusedPlan_48 ?_
        refine k_bipush (v := 6) dX6_isRefusedPlan_49 rfl ?_
        refine k_al0 dX6_isRefusedPlan_51 ?_
        refine k_al0 dX6_isRefusedPlan_52 ?_
        refine k_il1 dX6_isRefusedPlan_53 ?_
        refine k_cVI1 cvX6_177_5 dX6_isRefusedPlan_54 (mc_X6_planOf ht hA b h4 h48) (mW_mo hA) (Nat.le_of_eq (Nat.zero_add _)) (Nat.le_of_eq (Nat.zero_add _)) (fun r_54 h_54 e_54 => ?_)
        obtain ⟨rfl, rfl⟩ := e_54
        rw [hp]
        show Wk _ _ _ _ _ _ _ _ _ _ (.int (nI p) :: _) _
        refine k_iconst (v := 2) dX6_isRefusedPlan_57 rfl ?_
        refine k_cVI2 cvX6_167_5 dX6_isRefusedPlan_58 (mc_X6_pv ht hA (j := 2) (by exact rfl) rfl (by omega) (by decide)) (mW_mo hA) (Nat.le_of_eq (Nat.zero_add _)) (Nat.le_of_eq (Nat.zero_add _)) (fun r_58 h_58 e_58 => ?_)
        obtain ⟨rfl, rfl⟩ := e_58
        refine k_cVI2 cvX6_113_5 dX6_isRefusedPlan_61 (mc_X6_isBad ht hA _ _) (mW_mo hA) (Nat.le_of_eq (Nat.zero_add _)) (Nat.le_of_eq (Nat.zero_add _)) (fun r_61 h_61 e_61 => ?_)
        obtain ⟨rfl, rfl⟩ := e_61
        exact k_iret dX6_isRefusedPlan_64 rfl rfl (by rw [hPP, show s_refP R b m = some (6, R (204 + 3 * p + 2)) by unfold s_refP; rw [if_neg c_8, if_neg (by simpa using c_25), hp]]; exact ⟨_, rfl, rfl, rfl⟩)
    · refine k_al0 dX6_isRefusedPlan_28 ?_
      refine k_iconst (v := 3) dX6_isRefusedPlan_29 rfl ?_
      refine k_al0 dX6_isRefusedPlan_30 ?_
      refine k_il1 dX6_isRefusedPlan_31 ?_
      refine k_iconst (v := 0) dX6_isRefusedPlan_32 rfl ?_
      refine k_cVI2 cvX6_140_5 dX6_isRefusedPlan_33 (mc_X6_bv ht hA (j := 0) (by exact rfl) rfl (by omega) (by decide)) (mW_mo hA) (Nat.le_of_eq (Nat.zero_add _)) (Nat.le_of_eq (Nat.zero_add _)) (fun r_33 h_33 e_33 => ?_)
      obtain ⟨rfl, rfl⟩ := e_33
      refine k_cVI2 cvX6_113_5 dX6_isRefusedPlan_36 (mc_X6_isBad ht hA _ _) (mW_mo hA) (Nat.le_of_eq (Nat.zero_add _)) (Nat.le_of_eq (Nat.zero_add _)) (fun r_36 h_36 e_36 => ?_)
      obtain ⟨rfl, rfl⟩ := e_36
      exact k_iret dX6_isRefusedPlan_39 rfl rfl (by rw [hPP, show s_refP R b m = some (3, R (52 + 7 * b + 0)) by unfold s_refP; rw [if_neg c_8, if_pos c_25]]; exact ⟨_, rfl, rfl, rfl⟩)
  · refine k_al0 dX6_isRefusedPlan_11 ?_
    refine k_iconst (v := 1) dX6_isRefusedPlan_12 rfl ?_
    refine k_bipush (v := 6) dX6_isRefusedPlan_13 rfl ?_
    refine k_cVI2 cvX6_113_5 dX6_isRefusedPlan_15 (mc_X6_isBad ht hA _ _) (mW_mo hA) (Nat.le_of_eq (Nat.zero_add _)) (Nat.le_of_eq (Nat.zero_add _)) (fun r_15 h_15 e_15 => ?_)
    obtain ⟨rfl, rfl⟩ := e_15
    exact k_iret dX6_isRefusedPlan_18 rfl rfl (by rw [hPP, show s_refP R b m = some (1, 6) by unfold s_refP; rw [if_pos c_8]]; exact ⟨_, rfl, rfl, rfl⟩)
theorem nI_m1 (a : Nat) : nI (a + 1) + Int32.ofInt (-1) = nI a := by rw [show Int32.ofInt (-1) = -1 by decide, ← Int32.sub_eq_add_neg]; exact nI_pred a
theorem s_up_lo {R : Row} {n a j : Nat} (h : j < 204 + 3 * (a + 1)) : s_up R n a j = R j := by simp only [s_up]; rw [if_neg (by omega)]
theorem mc_X6_plans {l : Launch} (ht : l.stackTraces = false) {g : gT} {h : hp} {A : Nat → Nat} (hA : mOK A) {I R : Nat → Int32} {N : Nat → Nat → Int32} (b c m : Int32) (hlt : nP R < 6) (h4 : R 4 = nI (nP R)) (h48 : nP R ≤ 6) : MM l g yX6_plans kX6_plans [.ref (A 21), .int b, .int c, .int m] (mW h A I R N) (pI fun v_ h' => v_ = nI (s_pos R b m (nP R)) ∧ h' = mW h A I (s_planIn R b c m) N) (noX) (0) (0) := by
  refine MM.of (by decide) rfl rfl rfl (List.forall_mem_cons.mpr ⟨rfl, List.forall_mem_cons.mpr ⟨rfl, List.forall_mem_cons.mpr ⟨rfl, List.forall_mem_cons.mpr ⟨rfl, fun _ h => absurd h List.not_mem_nil⟩⟩⟩⟩) (Nat.le_of_ble_eq_true rfl) ht fun X => ?_
  show Wk _ _ _ _ _ _ _ _ _ [some (.ref (A 21)), some (.int b), some (.int c), some (.int m), none] _ _
  refine Wk.gen fun PP hPP => ?_
  have ex : ∀ a0, s_pos R b m (nP R) = a0 → a0 ≤ nP R → Wk l g X kX6_plans PP noX 0 0 68 [some (.ref (A 21)), some (.int b), some (.int c), some (.int m), some (.int (nI a0))] [] (mW h A I (s_up R (nP R) a0) N) := by
    intro a0 ha hle
    refine k_al0 dX6_plans_68 ?_
    refine k_il4 dX6_plans_69 ?_
    refine k_iconst (v := 0) dX6_plans_71 rfl ?_
    refine k_il1 dX6_plans_72 ?_
    refine k_cVV3 cvX6_170_5 dX6_plans_73 (mc_X6_lp ht hA (r := a0) (j := 0) rfl rfl (by omega) (by first | decide | omega)) (mW_mo hA) (Nat.le_of_eq (Nat.zero_add _)) (Nat.le_of_eq (Nat.zero_add _)) (fun h_73 e_73 => ?_)
    subst e_73
    refine k_al0 dX6_plans_76 ?_
    refine k_il4 dX6_plans_77 ?_
    refine k_iconst (v := 1) dX6_plans_79 rfl ?_
    refine k_il2 dX6_plans_80 ?_
    refine k_cVV3 cvX6_170_5 dX6_plans_81 (mc_X6_lp ht hA (r := a0) (j := 1) rfl rfl (by omega) (by first | decide | omega)) (mW_mo hA) (Nat.le_of_eq (Nat.zero_add _)) (Nat.le_of_eq (Nat.zero_add _)) (fun h_81 e_81 => ?_)
    subst e_81
    refine k_al0 dX6_plans_84 ?_
    refine k_il4 dX6_plans_85 ?_
    refine k_iconst (v := 2) dX6_plans_87 rfl ?_
    refine k_il3 dX6_plans_88 ?_
    refine k_cVV3 cvX6_170_5 dX6_plans_89 (mc_X6_lp ht hA (r := a0) (j := 2) rfl rfl (by omega) (by first | decide | omega)) (mW_mo hA) (Nat.le_of_eq (Nat.zero_add _)) (Nat.le_of_eq (Nat.zero_add _)) (fun h_89 e_89 => ?_)
    subst e_89
    refine k_al0 dX6_plans_92 ?_
    refine m_g0 hA fgX6_7_5 dX6_plans_93 ?_
    refine k_iconst (v := 4) dX6_plans_96 rfl ?_
    refine k_dup2 dX6_plans_97 ?_
    refine m_ldn hA dX6_plans_98 (⟨rfl, by decide⟩ : ixI _ 4) (by decide) ?_
    rw [upd_n (by omega), upd_n (by omega), upd_n (by omega), s_up_lo (by omega)]
    refine k_iconst (v := 1) dX6_plans_99 rfl ?_
    refine k_iadd dX6_plans_100 ?_
    refine m_stn hA dX6_plans_101 (⟨rfl, by decide⟩ : ixI _ 4) (by decide) ?_
    refine k_il4 dX6_plans_102 ?_
    exact k_iret dX6_plans_104 rfl rfl (by rw [hPP, ← ha]; exact ⟨_, rfl, rfl, by rw [ha]; unfold s_planIn; rw [← ha]⟩)
  have loop : ∀ a, a ≤ nP R → s_pos R b m a = s_pos R b m (nP R) → Wk l g X kX6_plans PP noX 0 0 8 [some (.ref (A 21)), some (.int b), some (.int c), some (.int m), some (.int (nI a))] [] (mW h A I (s_up R (nP R) a) N) := by
    intro a
    induction a with
    | zero =>
      intro hle he
      refine k_il4 dX6_plans_8 ?_
      refine k_if_le (tgt := 68) dX6_plans_10 (by decide) (fun c_10 => ?_) (fun c_10 => absurd ((show nI 0 ≤ 0 by decide)) c_10)
      exact ex 0 (by rw [← he]; rfl) hle
    | succ a ih =>
      intro hle he
      refine k_il4 dX6_plans_8 ?_
      refine k_if_le (tgt := 68) dX6_plans_10 (by decide) (fun c_10 => absurd c_10 ((show ¬ nI (a + 1) ≤ 0 from nI_nle (by omega) (by omega)))) (fun c_10 => ?_)
      refine k_al0 dX6_plans_13 ?_
      refine k_il4 dX6_plans_14 ?_
      refine k_iconst (v := 1) dX6_plans_16 rfl ?_
      refine k_isub dX6_plans_17 ?_
      refine Wk.top (v' := .int (nI a)) (congrArg Value.int (nI_pred a)) ?_
      refine k_iconst (v := 2) dX6_plans_18 rfl ?_
      refine k_cVI2 cvX6_167_5 dX6_plans_19 (mc_X6_pv ht hA (r := a) (j := 2) rfl rfl (by omega) (by decide)) (mW_mo hA) (Nat.le_of_eq (Nat.zero_add _)) (Nat.le_of_eq (Nat.zero_add _)) (fun r_19 h_19 e_19 => ?_)
      obtain ⟨rfl, rfl⟩ := e_19
      rw [s_up_lo (by omega)]
      refine k_il3 dX6_plans_22 ?_
      refine k_icmp_gt (tgt := 52) dX6_plans_23 (by decide) (fun c_23 => ?_) (fun c_23 => ?_)
      · have hcnd : m < R (204 + 3 * a + 2) ∨ (R (204 + 3 * a + 2) = m ∧ b < R (204 + 3 * a + 0)) := by first | exact Or.inl c_23 | exact Or.inr ⟨by simpa using c_36, Int32.not_le.mp c_49⟩
        refine k_al0 dX6_plans_52 ?_
        refine k_il4 dX6_plans_53 ?_
        refine k_iconst (v := 1) dX6_plans_55 rfl ?_
        refine k_isub dX6_plans_56 ?_
        refine Wk.top (v' := .int (nI a)) (congrArg Value.int (nI_pred a)) ?_
        refine k_il4 dX6_plans_57 ?_
        refine k_cVV2 cvX6_173_5 dX6_plans_59 (mc_X6_movesPlan ht hA (f := a) (t := a + 1) (by omega) (by omega) (by omega)) (mW_mo hA) (Nat.le_of_eq (Nat.zero_add _)) (Nat.le_of_eq (Nat.zero_add _)) (fun h_59 e_59 => ?_)
        subst e_59
        rw [s_up_s (by omega)]
        refine k_ic4 (v := nI a) dX6_plans_62 (nI_m1 a) (Nat.le_of_ble_eq_true rfl) ?_
        refine k_goto (tgt := 8) dX6_plans_65 (by decide) ?_
        exact ih (by omega) (by rw [← he]; conv => rhs; unfold s_pos; rw [if_pos hcnd])
      · refine k_al0 dX6_plans_26 ?_
        refine k_il4 dX6_plans_27 ?_
        refine k_iconst (v := 1) dX6_plans_29 rfl ?_
        refine k_isub dX6_plans_30 ?_
        refine Wk.top (v' := .int (nI a)) (congrArg Value.int (nI_pred a)) ?_
        refine k_iconst (v := 2) dX6_plans_31 rfl ?_
        refine k_cVI2 cvX6_167_5 dX6_plans_32 (mc_X6_pv ht hA (r := a) (j := 2) rfl rfl (by omega) (by decide)) (mW_mo hA) (Nat.le_of_eq (Nat.zero_add _)) (Nat.le_of_eq (Nat.zero_add _)) (fun r_32 h_32 e_32 => ?_)
        obtain ⟨rfl, rfl⟩ := e_32
        rw [s_up_lo (by omega)]
        refine k_il3 dX6_plans_35 ?_
        refine k_icmp_ne (tgt := 68) dX6_plans_36 (by decide) (fun c_36 => ?_) (fun c_36 => ?_)
        · refine ex (a + 1) ?_ hle
          rw [← he]
          conv => lhs; unfold s_pos
          rw [if_neg]
          rintro (e | ⟨e1, e2⟩)
          · exact c_23 e
          · first | exact c_36 e1 | exact absurd e2 (Int32.not_lt.mpr c_49)
        · refine k_al0 dX6_plans_39 ?_
          refine k_il4 dX6_plans_40 ?_
          refine k_iconst (v := 1) dX6_plans_42 rfl ?_
          refine k_isub dX6_plans_43 ?_
          refine Wk.top (v' := .int (nI a)) (congrArg Value.int (nI_pred a)) ?_
          refine k_iconst (v := 0) dX6_plans_44 rfl ?_
          refine k_cVI2 cvX6_167_5 dX6_plans_45 (mc_X6_pv ht hA (r := a) (j := 0) rfl rfl (by omega) (by decide)) (mW_mo hA) (Nat.le_of_eq (Nat.zero_add _)) (Nat.le_of_eq (Nat.zero_add _)) (fun r_45 h_45 e_45 => ?_)
          obtain ⟨rfl, rfl⟩ := e_45
          rw [s_up_lo (by omega)]
          refine k_il1 dX6_plans_48 ?_
          refine k_icmp_le (tgt := 68) dX6_plans_49 (by decide) (fun c_49 => ?_) (fun c_49 => ?_)
          · refine ex (a + 1) ?_ hle
            rw [← he]
            conv => lhs; unfold s_pos
            rw [if_neg]
            rintro (e | ⟨e1, e2⟩)
            · exact c_23 e
            · first | exact c_36 e1 | exact absurd e2 (Int32.not_lt.mpr c_49)
          · have hcnd : m < R (204 + 3 * a + 2) ∨ (R (204 + 3 * a + 2) = m ∧ b < R (204 + 3 * a + 0)) := by first | exact Or.inl c_23 | exact Or.inr ⟨by simpa using c_36, Int32.not_le.mp c_49⟩
            refine k_al0 dX6_plans_52 ?_
            refine k_il4 dX6_plans_53 ?_
            refine k_iconst (v := 1) dX6_plans_55 rfl ?_
            refine k_isub dX6_plans_56 ?_
            refine Wk.top (v' := .int (nI a)) (congrArg Value.int (nI_pred a)) ?_
            refine k_il4 dX6_plans_57 ?_
            refine k_cVV2 cvX6_173_5 dX6_plans_59 (mc_X6_movesPlan ht hA (f := a) (t := a + 1) (by omega) (by omega) (by omega)) (mW_mo hA) (Nat.le_of_eq (Nat.zero_add _)) (Nat.le_of_eq (Nat.zero_add _)) (fun h_59 e_59 => ?_)
            subst e_59
            rw [s_up_s (by omega)]
            refine k_ic4 (v := nI a) dX6_plans_62 (nI_m1 a) (Nat.le_of_ble_eq_true rfl) ?_
            refine k_goto (tgt := 8) dX6_plans_65 (by decide) ?_
            exact ih (by omega) (by rw [← he]; conv => rhs; unfold s_pos; rw [if_pos hcnd])
  refine k_al0 dX6_plans_0 ?_
  refine m_g0 hA fgX6_7_5 dX6_plans_1 ?_
  refine k_iconst (v := 4) dX6_plans_4 rfl ?_
  refine m_ldn hA dX6_plans_5 (⟨rfl, by decide⟩ : ixI _ 4) (by decide) ?_
  rw [h4]
  refine k_is4 dX6_plans_6 (Nat.le_of_ble_eq_true rfl) ?_
  have hz := loop (nP R) (Nat.le_refl _) rfl
  rw [s_up_0] at hz
  exact hz
theorem mc_X6_plan {l : Launch} (ht : l.stackTraces = false) {g : gT} {h : hp} {A : Nat → Nat} (hA : mOK A) {I R : Nat → Int32} {N : Nat → Nat → Int32} (b c m : Int32) (h2 : R 2 = nI (nB R)) (h28 : nB R ≤ 20) (h3 : R 3 = nI (nC R)) (h38 : nC R ≤ 4) (h4 : R 4 = nI (nP R)) (h48 : nP R ≤ 6) {cc : Nat} (hc : I 6 = nI cc) (hc8 : cc ≤ 8) : MM l g yX6_plan kX6_plan [.ref (A 21), .int b, .int c, .int m] (mW h A I R N) (mPost (o_plan R b c m) h A I R N) (noX) (0) (0) := by
  refine MM.of (by decide) rfl rfl rfl (List.forall_mem_cons.mpr ⟨rfl, List.forall_mem_cons.mpr ⟨rfl, List.forall_mem_cons.mpr ⟨rfl, List.forall_mem_cons.mpr ⟨rfl, fun _ h => absurd h List.not_mem_nil⟩⟩⟩⟩) (Nat.le_of_ble_eq_true rfl) ht fun X => ?_
  show Wk _ _ _ _ _ _ _ _ _ [some (.ref (A 21)), some (.int b), some (.int c), some (.int m)] _ _
  refine Wk.gen fun PP hPP => ?_
  refine k_al0 dX6_plan_0 ?_
  refine k_cVV0 cvX6_87_5 dX6_plan_1 (mc_X6_begins ht hA) (mW_mo hA) (Nat.le_of_eq (Nat.zero_add _)) (Nat.le_of_eq (Nat.zero_add _)) (fun h_1 e_1 => ?_)
  subst e_1
  refine k_al0 dX6_plan_4 ?_
  refine k_il1 dX6_plan_5 ?_
  refine k_cVI1 cvX6_158_5 dX6_plan_6 (mc_X6_isBalloon ht hA _) (mW_mo hA) (Nat.le_of_eq (Nat.zero_add _)) (Nat.le_of_eq (Nat.zero_add _)) (fun r_6 h_6 e_6 => ?_)
  obtain ⟨rfl, rfl⟩ := e_6
  refine k_if_eq (tgt := 20) dX6_plan_9 (by decide) (fun c_9 => ?_) (fun c_9 => ?_)
  · refine k_al0 dX6_plan_20 ?_
    refine k_iconst (v := 1) dX6_plan_21 rfl ?_
    refine k_cVI1 cvX6_75_5 dX6_plan_22 (mc_X6_no ht hA _) (mW_mo hA) (Nat.le_of_eq (Nat.zero_add _)) (Nat.le_of_eq (Nat.zero_add _)) (fun r_22 h_22 e_22 => ?_)
    obtain ⟨rfl, rfl⟩ := e_22
    exact k_iret dX6_plan_25 rfl rfl (by rw [hPP, show o_plan R b c m = oNo 1 R by unfold o_plan; first | rw [if_pos (bI_0.mp c_9)] | rw [if_neg (by rw [bI_n0.mp c_9]; decide), if_pos (bI_0.mp (by simpa using c_17))]]; exact ⟨_, rfl, rfl, _, _, mOut_no (by decide) (by simp [uI]) (fun k h5 h7 h8 _ _ _ => by simp [uI, h5, h7, h8]), rfl⟩)
  · refine k_al0 dX6_plan_12 ?_
    refine k_il2 dX6_plan_13 ?_
    refine k_cVI1 cvX6_152_5 dX6_plan_14 (mc_X6_isCrew ht hA _) (mW_mo hA) (Nat.le_of_eq (Nat.zero_add _)) (Nat.le_of_eq (Nat.zero_add _)) (fun r_14 h_14 e_14 => ?_)
    obtain ⟨rfl, rfl⟩ := e_14
    refine k_if_ne (tgt := 26) dX6_plan_17 (by decide) (fun c_17 => ?_) (fun c_17 => ?_)
    · have a1 : inB b 0 (R 2 - 1) = true := bI_n0.mp c_9
      obtain ⟨i, hi, rfl⟩ := (inB_cnt (show nB R < 2 ^ 30 by omega)).mp (by rw [← h2]; exact a1)
      have a2 : inB c 0 (R 3 - 1) = true := bI_n0.mp c_17
      obtain ⟨j, hj, rfl⟩ := (inB_cnt (show nC R < 2 ^ 30 by omega)).mp (by rw [← h3]; exact a2)
      refine k_il3 dX6_plan_26 ?_
      refine k_iconst (v := 0) dX6_plan_27 rfl ?_
      refine k_sipush (v := 9999) dX6_plan_28 rfl ?_
      refine k_cSI3 csX6_83 dX6_plan_31 (mc_X6_in ht _ _ _) (Nat.le_of_eq (Nat.zero_add _)) (Nat.le_of_eq (Nat.zero_add _)) (fun r_31 h_31 e_31 => ?_)
      obtain ⟨rfl, rfl⟩ := e_31
      refine k_if_ne (tgt := 43) dX6_plan_34 (by decide) (fun c_34 => ?_) (fun c_34 => ?_)
      · have a3 : inB m 0 9999 = true := bI_n0.mp c_34
        refine k_al0 dX6_plan_43 ?_
        refine k_il1 dX6_plan_44 ?_
        refine k_il3 dX6_plan_45 ?_
        refine k_cVI2 cvX6_180_5 dX6_plan_46 (mc_X6_isRefusedPlan ht hA (by omega) _ h4 h48) (mW_mo hA) (Nat.le_of_eq (Nat.zero_add _)) (Nat.le_of_eq (Nat.zero_add _)) (fun r_46 h_46 e_46 => ?_)
        obtain ⟨rfl, rfl⟩ := e_46
        refine k_if_eq (tgt := 60) dX6_plan_49 (by decide) (fun c_49 => ?_) (fun c_49 => ?_)
        · have hno : s_refP R i m = none := by simpa using bI_0.mp c_49
          have hlt : nP R < 6 := by
            rcases Nat.lt_or_ge (nP R) 6 with e | e
            · exact e
            · have h6 : R 4 = 6 := h4.trans (show nI (nP R) = 6 by rw [show nP R = 6 by omega]; decide)
              unfold s_refP at hno
              rw [if_pos h6] at hno
              cases hno
          rw [hno]
          refine k_al0 dX6_plan_60 ?_
          refine k_al0 dX6_plan_61 ?_
          refine k_il1 dX6_plan_62 ?_
          refine k_il2 dX6_plan_63 ?_
          refine k_il3 dX6_plan_64 ?_
          refine k_cVI3 cvX6_183_5 dX6_plan_65 (mc_X6_plans ht hA _ _ _ hlt h4 h48) (mW_mo hA) (Nat.le_of_eq (Nat.zero_add _)) (Nat.le_of_eq (Nat.zero_add _)) (fun r_65 h_65 e_65 => ?_)
          obtain ⟨rfl, rfl⟩ := e_65
          refine k_cVI1 cvX6_101_5 dX6_plan_68 (mc_X6_keeps ht hA _ (c := cc) (by simp [mWhy, uI]; exact hc) hc8) (mW_mo hA) (Nat.le_of_eq (Nat.zero_add _)) (Nat.le_of_eq (Nat.zero_add _)) (fun r_68 h_68 e_68 => ?_)
          exact k_iret dX6_plan_71 rfl rfl (by obtain ⟨rfl, I', N', hk, rfl⟩ := e_68; rw [hPP, show o_plan R (nI i) (nI j) m = oOk (nI (s_pos R (nI i) m (nP R))) (s_planIn R (nI i) (nI j) m) by unfold o_plan; rw [if_neg (by rw [a1]; decide), if_neg (by rw [a2]; decide), if_neg (by rw [a3]; decide), nI_clamp (show i < 2 ^ 31 by omega), hno]]; exact ⟨_, rfl, rfl, I', N', mOut_ok hk (by simp [mWhy, uI]) (fun k h5 h7 h8 _ _ _ => by simp [mWhy, uI, h5, h7, h8]), rfl⟩)
        · refine k_al0 dX6_plan_52 ?_
          refine k_iconst (v := 3) dX6_plan_53 rfl ?_
          refine k_cVI1 cvX6_117_5 dX6_plan_54 (mc_X6_refused ht hA _) (mW_mo hA) (Nat.le_of_eq (Nat.zero_add _)) (Nat.le_of_eq (Nat.zero_add _)) (fun r_54 h_54 e_54 => ?_)
          obtain ⟨rfl, rfl⟩ := e_54
          refine k_goto (tgt := 71) dX6_plan_57 (by decide) ?_
          exact k_iret dX6_plan_71 rfl rfl (by obtain ⟨w, hw⟩ := Option.isSome_iff_exists.mp (bI_n0.mp c_49); rw [hPP, hw, show o_plan R (nI i) (nI j) m = oRf 3 w.1 w.2 R by unfold o_plan; rw [if_neg (by rw [a1]; decide), if_neg (by rw [a2]; decide), if_neg (by rw [a3]; decide), nI_clamp (show i < 2 ^ 31 by omega), hw]]; exact ⟨_, rfl, rfl, _, _, mOut_rf (by decide) (by simp [uI]) (by simp [uI, mWhy_7]) (by simp [uI, mWhy_7]) (fun k h5 h7 h8 h9 h10 _ _ _ => by simp [uI, h5, h9, h10, mWhy_n h7 h8]), rfl⟩)
      · refine k_al0 dX6_plan_37 ?_
        refine k_iconst (v := 2) dX6_plan_38 rfl ?_
        refine k_cVI1 cvX6_75_5 dX6_plan_39 (mc_X6_no ht hA _) (mW_mo hA) (Nat.le_of_eq (Nat.zero_add _)) (Nat.le_of_eq (Nat.zero_add _)) (fun r_39 h_39 e_39 => ?_)
        obtain ⟨rfl, rfl⟩ := e_39
        exact k_iret dX6_plan_42 rfl rfl (by rw [hPP, (show o_plan R (nI i) (nI j) m = oNo 2 R by unfold o_plan; rw [if_neg (by rw [a1]; decide), if_neg (by rw [a2]; decide), if_pos (bI_0.mp (by simpa using c_34))])]; exact ⟨_, rfl, rfl, _, _, mOut_no (by decide) (by simp [uI]) (fun k h5 h7 h8 _ _ _ => by simp [uI, h5, h7, h8]), rfl⟩)
    · refine k_al0 dX6_plan_20 ?_
      refine k_iconst (v := 1) dX6_plan_21 rfl ?_
      refine k_cVI1 cvX6_75_5 dX6_plan_22 (mc_X6_no ht hA _) (mW_mo hA) (Nat.le_of_eq (Nat.zero_add _)) (Nat.le_of_eq (Nat.zero_add _)) (fun r_22 h_22 e_22 => ?_)
      obtain ⟨rfl, rfl⟩ := e_22
      exact k_iret dX6_plan_25 rfl rfl (by rw [hPP, show o_plan R b c m = oNo 1 R by unfold o_plan; first | rw [if_pos (bI_0.mp c_9)] | rw [if_neg (by rw [bI_n0.mp c_9]; decide), if_pos (bI_0.mp (by simpa using c_17))]]; exact ⟨_, rfl, rfl, _, _, mOut_no (by decide) (by simp [uI]) (fun k h5 h7 h8 _ _ _ => by simp [uI, h5, h7, h8]), rfl⟩)
theorem mc_X6_drop {l : Launch} (ht : l.stackTraces = false) {g : gT} {h : hp} {A : Nat → Nat} (hA : mOK A) {I R : Nat → Int32} {N : Nat → Nat → Int32} (b : Int32) (h2 : R 2 = nI (nB R)) (h28 : nB R ≤ 20) (h4 : R 4 = nI (nP R)) (h48 : nP R ≤ 6) {cc : Nat} (hc : I 6 = nI cc) (hc8 : cc ≤ 8) : MM l g yX6_drop kX6_drop [.ref (A 21), .int b] (mW h A I R N) (mPost (o_drop R b) h A I R N) (noX) (0) (0) := by
  refine MM.of (by decide) rfl rfl rfl (List.forall_mem_cons.mpr ⟨rfl, List.forall_mem_cons.mpr ⟨rfl, fun _ h => absurd h List.not_mem_nil⟩⟩) (Nat.le_of_ble_eq_true rfl) ht fun X => ?_
  show Wk _ _ _ _ _ _ _ _ _ [some (.ref (A 21)), some (.int b)] _ _
  refine Wk.gen fun PP hPP => ?_
  refine k_al0 dX6_drop_0 ?_
  refine k_cVV0 cvX6_87_5 dX6_drop_1 (mc_X6_begins ht hA) (mW_mo hA) (Nat.le_of_eq (Nat.zero_add _)) (Nat.le_of_eq (Nat.zero_add _)) (fun h_1 e_1 => ?_)
  subst e_1
  refine k_al0 dX6_drop_4 ?_
  refine k_il1 dX6_drop_5 ?_
  refine k_cVI1 cvX6_158_5 dX6_drop_6 (mc_X6_isBalloon ht hA _) (mW_mo hA) (Nat.le_of_eq (Nat.zero_add _)) (Nat.le_of_eq (Nat.zero_add _)) (fun r_6 h_6 e_6 => ?_)
  obtain ⟨rfl, rfl⟩ := e_6
  refine k_if_ne (tgt := 18) dX6_drop_9 (by decide) (fun c_9 => ?_) (fun c_9 => ?_)
  · have a1 : inB b 0 (R 2 - 1) = true := bI_n0.mp c_9
    obtain ⟨i, hi, rfl⟩ := (inB_cnt (show nB R < 2 ^ 30 by omega)).mp (by rw [← h2]; exact a1)
    refine k_al0 dX6_drop_18 ?_
    refine k_il1 dX6_drop_19 ?_
    refine k_cVI1 cvX6_177_5 dX6_drop_20 (mc_X6_planOf ht hA i h4 h48) (mW_mo hA) (Nat.le_of_eq (Nat.zero_add _)) (Nat.le_of_eq (Nat.zero_add _)) (fun r_20 h_20 e_20 => ?_)
    obtain ⟨rfl, rfl⟩ := e_20
    refine k_if_ge (tgt := 32) dX6_drop_23 (by decide) (fun c_23 => ?_) (fun c_23 => ?_)
    · obtain ⟨p, hp⟩ := rfo_ge (Int32.not_lt.mpr c_23)
      have hp6 := s_planOf_lt hp
      refine k_al0 dX6_drop_32 ?_
      refine k_al0 dX6_drop_33 ?_
      refine k_il1 dX6_drop_34 ?_
      refine k_cVI1 cvX6_177_5 dX6_drop_35 (mc_X6_planOf ht hA i h4 h48) (mW_mo hA) (Nat.le_of_eq (Nat.zero_add _)) (Nat.le_of_eq (Nat.zero_add _)) (fun r_35 h_35 e_35 => ?_)
      obtain ⟨rfl, rfl⟩ := e_35
      rw [hp]
      show Wk _ _ _ _ _ _ _ _ _ _ (.int (nI p) :: _) _
      refine k_cVV1 cvX6_187_5 dX6_drop_38 (mc_X6_planGoes ht hA hp6 h4 h48) (mW_mo hA) (Nat.le_of_eq (Nat.zero_add _)) (Nat.le_of_eq (Nat.zero_add _)) (fun h_38 e_38 => ?_)
      subst e_38
      refine k_al0 dX6_drop_41 ?_
      refine k_al0 dX6_drop_42 ?_
      refine m_g0 hA fgX6_7_5 dX6_drop_43 ?_
      refine k_iconst (v := 4) dX6_drop_46 rfl ?_
      refine m_ldn hA dX6_drop_47 (⟨rfl, by decide⟩ : ixI _ 4) (by decide) ?_
      rw [show s_planGoes R p 4 = R 4 - 1 by simp [s_planGoes]]
      refine k_cVI1 cvX6_101_5 dX6_drop_48 (mc_X6_keeps ht hA _ (c := cc) (by simp [uI]; exact hc) hc8) (mW_mo hA) (Nat.le_of_eq (Nat.zero_add _)) (Nat.le_of_eq (Nat.zero_add _)) (fun r_48 h_48 e_48 => ?_)
      exact k_iret dX6_drop_51 rfl rfl (by obtain ⟨rfl, I', N', hk, rfl⟩ := e_48; rw [hPP, (show o_drop R (nI i) = oOk (R 4 - 1) (s_planGoes R p) by unfold o_drop; rw [if_neg (by rw [a1]; decide), nI_clamp (show i < 2 ^ 31 by omega), hp])]; exact ⟨_, rfl, rfl, I', N', mOut_ok hk (by simp [uI]) (fun k h5 h7 h8 _ _ _ => by simp [uI, h5, h7, h8]), rfl⟩)
    · refine k_al0 dX6_drop_26 ?_
      refine k_iconst (v := 2) dX6_drop_27 rfl ?_
      refine k_cVI1 cvX6_75_5 dX6_drop_28 (mc_X6_no ht hA _) (mW_mo hA) (Nat.le_of_eq (Nat.zero_add _)) (Nat.le_of_eq (Nat.zero_add _)) (fun r_28 h_28 e_28 => ?_)
      obtain ⟨rfl, rfl⟩ := e_28
      exact k_iret dX6_drop_31 rfl rfl (by rw [hPP, (show o_drop R (nI i) = oNo 2 R by unfold o_drop; rw [if_neg (by rw [a1]; decide), nI_clamp (show i < 2 ^ 31 by omega), rfo_lt (s_planOf_b h48) (Int32.not_le.mp (by simpa using c_23))])]; exact ⟨_, rfl, rfl, _, _, mOut_no (by decide) (by simp [uI]) (fun k h5 h7 h8 _ _ _ => by simp [uI, h5, h7, h8]), rfl⟩)
  · refine k_al0 dX6_drop_12 ?_
    refine k_iconst (v := 1) dX6_drop_13 rfl ?_
    refine k_cVI1 cvX6_75_5 dX6_drop_14 (mc_X6_no ht hA _) (mW_mo hA) (Nat.le_of_eq (Nat.zero_add _)) (Nat.le_of_eq (Nat.zero_add _)) (fun r_14 h_14 e_14 => ?_)
    obtain ⟨rfl, rfl⟩ := e_14
    exact k_iret dX6_drop_17 rfl rfl (by rw [hPP, (show o_drop R b = oNo 1 R by unfold o_drop; rw [if_pos (bI_0.mp (by simpa using c_9))])]; exact ⟨_, rfl, rfl, _, _, mOut_no (by decide) (by simp [uI]) (fun k h5 h7 h8 _ _ _ => by simp [uI, h5, h7, h8]), rfl⟩)
