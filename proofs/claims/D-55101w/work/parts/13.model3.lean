/-! THE MODEL: contracts of its methods, 3 (printed by tools/mk_model3.py) -/
set_option maxRecDepth 100000
theorem cvX6_104_5 : CVs "TissueBalloonsModel" 104 5 yX6_rv kX6_rv 2 := ⟨⟨TX6, 21, rfl⟩, q3208, q3210, qs36, q100, q3211, ⟨by decide, by decide⟩, rfl⟩
theorem cvX6_120_5 : CVs "TissueBalloonsModel" 120 5 yX6_lr kX6_lr 3 := ⟨⟨TX6, 21, rfl⟩, q3220, q3222, qs39, q100, q3223, ⟨by decide, by decide⟩, rfl⟩
theorem cvX6_110_5 : CVs "TissueBalloonsModel" 110 5 yX6_roofAtPlace kX6_roofAtPlace 1 := ⟨⟨TX6, 21, rfl⟩, q3204, q3206, qs35, q100, q3207, ⟨by decide, by decide⟩, rfl⟩
theorem cvX6_113_5 : CVs "TissueBalloonsModel" 113 5 yX6_isBad kX6_isBad 2 := ⟨⟨TX6, 21, rfl⟩, q3212, q3214, qs37, q100, q3215, ⟨by decide, by decide⟩, rfl⟩
theorem cvX6_117_5 : CVs "TissueBalloonsModel" 117 5 yX6_refused kX6_refused 1 := ⟨⟨TX6, 21, rfl⟩, q3216, q3218, qs38, q100, q3219, ⟨by decide, by decide⟩, rfl⟩
theorem csX6_107 : CSs "TissueBalloonsModel" 107 yX6_isPlace kX6_isPlace 1 := ⟨q3201, q3202, q100, q3203, ⟨by decide, by decide⟩, rfl⟩
theorem mc_X6_windOf {l : Launch} (ht : l.stackTraces = false) {g : gT} {h : hp} {A : Nat → Nat} (hA : mOK A) {I R : Nat → Int32} {N : Nat → Nat → Int32} (ly : Int32) : MM l g yX6_windOf kX6_windOf [.ref (A 21), .int ly] (mW h A I R N) (mQry (q_windOf R ly) h A I R N) (noX) (0) (0) := by
  refine MM.of (by decide) rfl rfl rfl (List.forall_mem_cons.mpr ⟨rfl, List.forall_mem_cons.mpr ⟨rfl, fun _ h => absurd h List.not_mem_nil⟩⟩) (Nat.le_of_ble_eq_true rfl) ht fun X => ?_
  show Wk _ _ _ _ _ _ _ _ _ [some (.ref (A 21)), some (.int ly)] _ _
  refine Wk.gen fun PP hPP => ?_
  refine k_al0 dX6_windOf_0 ?_
  refine k_iconst (v := 0) dX6_windOf_1 rfl ?_
  refine m_p5 hA fpX6_25_5 dX6_windOf_2 ?_
  refine k_il1 dX6_windOf_5 ?_
  refine k_cSI1 csX6_90 dX6_windOf_6 (mc_X6_isLayer ht _) (Nat.le_of_eq (Nat.zero_add _)) (Nat.le_of_eq (Nat.zero_add _)) (fun r_6 h_6 e_6 => ?_)
  obtain ⟨rfl, rfl⟩ := e_6
  refine k_if_eq (tgt := 24) dX6_windOf_9 (by decide) (fun c_9 => ?_) (fun c_9 => ?_)
  · refine k_al0 dX6_windOf_24 ?_
    refine k_iconst (v := 1) dX6_windOf_25 rfl ?_
    refine k_cVI1 cvX6_75_5 dX6_windOf_26 (mc_X6_no ht hA _) (mW_mo hA) (Nat.le_of_eq (Nat.zero_add _)) (Nat.le_of_eq (Nat.zero_add _)) (fun r_26 h_26 e_26 => ?_)
    obtain ⟨rfl, rfl⟩ := e_26
    exact k_iret dX6_windOf_29 rfl rfl (by rw [hPP, show q_windOf R ly = (1, 0) by unfold q_windOf; rw [if_neg (by rw [bI_0.mp c_9]; decide)]]; exact ⟨_, rfl, rfl, by rw [uI_uI]⟩)
  · have hly : inB ly 0 3 = true := bI_n0.mp c_9
    obtain ⟨i, hi, rfl⟩ := inB_nI (n := 3) (by decide) hly
    refine k_al0 dX6_windOf_12 ?_
    refine m_g0 hA fgX6_7_5 dX6_windOf_13 ?_
    refine k_bipush (v := 8) dX6_windOf_16 rfl ?_
    refine k_il1 dX6_windOf_18 ?_
    refine k_iadd dX6_windOf_19 ?_
    refine Wk.top (v' := .int (nI (8 + i))) (congrArg Value.int (nI_add 8 i)) ?_
    refine m_ldn hA dX6_windOf_20 (ixI_n (by omega)) (show 8 + i < 222 by omega) ?_
    refine k_goto (tgt := 29) dX6_windOf_21 (by decide) ?_
    exact k_iret dX6_windOf_29 rfl rfl (by rw [hPP, show q_windOf R (nI i) = (0, R (8 + i)) by unfold q_windOf; rw [if_pos hly, nI_clamp (by omega)]]; exact ⟨_, rfl, rfl, rfl⟩)
theorem mc_X6_roofAtPlace {l : Launch} (ht : l.stackTraces = false) {g : gT} {h : hp} {A : Nat → Nat} (hA : mOK A) {I R : Nat → Int32} {N : Nat → Nat → Int32} (pl : Int32) (h1 : R 1 = nI (nR R)) (h18 : nR R ≤ 8) : MM l g yX6_roofAtPlace kX6_roofAtPlace [.ref (A 21), .int pl] (mW h A I R N) (pI fun v_ h' => v_ = rfo (s_roofAt R pl) ∧ h' = mW h A I R N) (noX) (0) (0) := by
  refine MM.of (by decide) rfl rfl rfl (List.forall_mem_cons.mpr ⟨rfl, List.forall_mem_cons.mpr ⟨rfl, fun _ h => absurd h List.not_mem_nil⟩⟩) (Nat.le_of_ble_eq_true rfl) ht fun X => ?_
  show Wk _ _ _ _ _ _ _ _ _ [some (.ref (A 21)), some (.int pl), none] _ _
  refine Wk.gen fun PP hPP => ?_
  have loop : ∀ d i, i + d = nR R → (∀ j, j < i → (R (12 + 5 * j) == pl) = false) → Wk l g X kX6_roofAtPlace PP noX 0 0 2 [some (.ref (A 21)), some (.int pl), some (.int (nI i))] [] (mW h A I R N) := by
    intro d
    induction d with
    | zero =>
      intro i hid hv
      have hi : i = nR R := by omega
      refine k_il2 dX6_roofAtPlace_2 ?_
      refine k_al0 dX6_roofAtPlace_3 ?_
      refine m_g0 hA fgX6_7_5 dX6_roofAtPlace_4 ?_
      refine k_iconst (v := 1) dX6_roofAtPlace_7 rfl ?_
      refine m_ldn hA dX6_roofAtPlace_8 (⟨rfl, by decide⟩ : ixI _ 1) (by decide) ?_
      rw [h1]
      refine k_icmp_ge (tgt := 30) dX6_roofAtPlace_9 (by decide) (fun c_9 => ?_) (fun c_9 => absurd ((show nI (nR R) ≤ nI i by rw [hi]; exact Int32.le_refl _)) c_9)
      refine k_iconst (v := (-1)) dX6_roofAtPlace_30 rfl ?_
      exact k_iret dX6_roofAtPlace_31 rfl rfl (by rw [hPP]; exact ⟨_, rfl, by unfold s_roofAt; rw [s_find_none (by rw [← hi]; exact hv)]; rfl, rfl⟩)
    | succ d ih =>
      intro i hid hv
      have hi : i < nR R := by omega
      refine k_il2 dX6_roofAtPlace_2 ?_
      refine k_al0 dX6_roofAtPlace_3 ?_
      refine m_g0 hA fgX6_7_5 dX6_roofAtPlace_4 ?_
      refine k_iconst (v := 1) dX6_roofAtPlace_7 rfl ?_
      refine m_ldn hA dX6_roofAtPlace_8 (⟨rfl, by decide⟩ : ixI _ 1) (by decide) ?_
      rw [h1]
      refine k_icmp_ge (tgt := 30) dX6_roofAtPlace_9 (by decide) (fun c_9 => absurd c_9 (nI_ge hi (by omega))) (fun c_9 => ?_)
      refine k_al0 dX6_roofAtPlace_12 ?_
      refine k_il2 dX6_roofAtPlace_13 ?_
      refine k_iconst (v := 0) dX6_roofAtPlace_14 rfl ?_
      refine k_cVI2 cvX6_104_5 dX6_roofAtPlace_15 (mc_X6_rv ht hA (by exact rfl) (by exact rfl) (by first | assumption | omega) (by first | decide | omega)) (mW_mo hA) (Nat.le_of_eq (Nat.zero_add _)) (Nat.le_of_eq (Nat.zero_add _)) (fun r_15 h_15 e_15 => ?_)
      obtain ⟨rfl, rfl⟩ := e_15
      refine k_il1 dX6_roofAtPlace_18 ?_
      refine k_icmp_ne (tgt := 24) dX6_roofAtPlace_19 (by decide) (fun c_19 => ?_) (fun c_19 => ?_)
      · refine k_ic2 (v := nI (i + 1)) dX6_roofAtPlace_24 (nI_1 i) (Nat.le_of_ble_eq_true rfl) ?_
        refine k_goto (tgt := 2) dX6_roofAtPlace_27 (by decide) ?_
        exact ih (i + 1) (by omega) (lt_s hv (by simpa using c_19))
      · refine k_il2 dX6_roofAtPlace_22 ?_
        exact k_iret dX6_roofAtPlace_23 rfl rfl (by rw [hPP]; exact ⟨_, rfl, by unfold s_roofAt; rw [s_find_some hi (by simpa using c_19) hv]; rfl, rfl⟩)
  refine k_iconst (v := 0) dX6_roofAtPlace_0 rfl ?_
  refine k_is2 dX6_roofAtPlace_1 (Nat.le_of_ble_eq_true rfl) ?_
  exact loop (nR R) 0 (by omega) lt_0
theorem mc_X6_roofsWith {l : Launch} (ht : l.stackTraces = false) {g : gT} {h : hp} {A : Nat → Nat} (hA : mOK A) {I R : Nat → Int32} {N : Nat → Nat → Int32} (h1 : R 1 = nI (nR R)) (h18 : nR R ≤ 8) {a : Int32} {w : Nat} (hw : a = nI w) (hw5 : w < 5) : MM l g yX6_roofsWith kX6_roofsWith [.ref (A 21), .int a] (mW h A I R N) (pI fun v_ h' => v_ = s_with R w ∧ h' = mW h A I R N) (noX) (0) (0) := by
  refine MM.of (by decide) rfl rfl rfl (List.forall_mem_cons.mpr ⟨rfl, List.forall_mem_cons.mpr ⟨rfl, fun _ h => absurd h List.not_mem_nil⟩⟩) (Nat.le_of_ble_eq_true rfl) ht fun X => ?_
  show Wk _ _ _ _ _ _ _ _ _ [some (.ref (A 21)), some (.int a), none, none] _ _
  refine Wk.gen fun PP hPP => ?_
  have loop : ∀ d i, i + d = nR R → Wk l g X kX6_roofsWith PP noX 0 0 4 [some (.ref (A 21)), some (.int a), some (.int (s_sum i (fun r => R (12 + 5 * r + w)))), some (.int (nI i))] [] (mW h A I R N) := by
    intro d
    induction d with
    | zero =>
      intro i hid 
      have hi : i = nR R := by omega
      refine k_il3 dX6_roofsWith_4 ?_
      refine k_al0 dX6_roofsWith_5 ?_
      refine m_g0 hA fgX6_7_5 dX6_roofsWith_6 ?_
      refine k_iconst (v := 1) dX6_roofsWith_9 rfl ?_
      refine m_ldn hA dX6_roofsWith_10 (⟨rfl, by decide⟩ : ixI _ 1) (by decide) ?_
      rw [h1]
      refine k_icmp_ge (tgt := 29) dX6_roofsWith_11 (by decide) (fun c_11 => ?_) (fun c_11 => absurd ((show nI (nR R) ≤ nI i by rw [hi]; exact Int32.le_refl _)) c_11)
      refine k_il2 dX6_roofsWith_29 ?_
      exact k_iret dX6_roofsWith_30 rfl rfl (by rw [hPP]; exact ⟨_, rfl, by rw [hi]; rfl, rfl⟩)
    | succ d ih =>
      intro i hid 
      have hi : i < nR R := by omega
      refine k_il3 dX6_roofsWith_4 ?_
      refine k_al0 dX6_roofsWith_5 ?_
      refine m_g0 hA fgX6_7_5 dX6_roofsWith_6 ?_
      refine k_iconst (v := 1) dX6_roofsWith_9 rfl ?_
      refine m_ldn hA dX6_roofsWith_10 (⟨rfl, by decide⟩ : ixI _ 1) (by decide) ?_
      rw [h1]
      refine k_icmp_ge (tgt := 29) dX6_roofsWith_11 (by decide) (fun c_11 => absurd c_11 (nI_ge hi (by omega))) (fun c_11 => ?_)
      refine k_il2 dX6_roofsWith_14 ?_
      refine k_al0 dX6_roofsWith_15 ?_
      refine k_il3 dX6_roofsWith_16 ?_
      refine k_il1 dX6_roofsWith_17 ?_
      refine k_cVI2 cvX6_104_5 dX6_roofsWith_18 (mc_X6_rv ht hA (by exact rfl) hw (by omega) hw5) (mW_mo hA) (Nat.le_of_eq (Nat.zero_add _)) (Nat.le_of_eq (Nat.zero_add _)) (fun r_18 h_18 e_18 => ?_)
      obtain ⟨rfl, rfl⟩ := e_18
      refine k_iadd dX6_roofsWith_21 ?_
      refine k_is2 dX6_roofsWith_22 (Nat.le_of_ble_eq_true rfl) ?_
      refine k_ic3 (v := nI (i + 1)) dX6_roofsWith_23 (nI_1 i) (Nat.le_of_ble_eq_true rfl) ?_
      refine k_goto (tgt := 4) dX6_roofsWith_26 (by decide) ?_
      exact ih (i + 1) (by omega)
  refine k_iconst (v := 0) dX6_roofsWith_0 rfl ?_
  refine k_is2 dX6_roofsWith_1 (Nat.le_of_ble_eq_true rfl) ?_
  refine k_iconst (v := 0) dX6_roofsWith_2 rfl ?_
  refine k_is3 dX6_roofsWith_3 (Nat.le_of_ble_eq_true rfl) ?_
  exact loop (nR R) 0 (by omega)
theorem nR_upd {R : Row} {k : Nat} {v : Int32} (h : k ≠ 1) : nR (upd R k v) = nR R := by unfold nR; rw [upd_n (Ne.symm h)]
theorem rfo_lt {o : Option Nat} (hb : ∀ r, o = some r → r < 2 ^ 31) (h : rfo o < 0) : o = none := (rfo_neg hb).mp h
theorem rfo_ge {o : Option Nat} (h : ¬ rfo o < 0) : ∃ r, o = some r := by
  cases o with
  | none => exact absurd (show rfo none < 0 by decide) h
  | some r => exact ⟨r, rfl⟩
theorem s_roofAt_b {R : Row} {pl : Int32} (h18 : nR R ≤ 8) : ∀ r, s_roofAt R pl = some r → r < 2 ^ 31 := fun r h => by have := s_roofAt_lt h; omega
/-- the first k places of the new roof are nought -/
def s_zero (R : Row) (k : Nat) : Row := fun j => if 12 + 5 * nR R ≤ j ∧ j < 12 + 5 * nR R + k then 0 else R j
theorem s_zero_0 {R : Row} : s_zero R 0 = R := by
  funext j; simp only [s_zero]; rw [if_neg (by omega)]
theorem s_zero_s {R : Row} {k : Nat} : upd (s_zero R k) (12 + 5 * nR R + k) 0 = s_zero R (k + 1) := by
  funext j
  simp only [upd, s_zero]
  by_cases e : j = 12 + 5 * nR R + k
  · rw [if_pos e, if_pos (by omega)]
  · rw [if_neg e]
    by_cases e2 : 12 + 5 * nR R ≤ j ∧ j < 12 + 5 * nR R + k
    · rw [if_pos e2, if_pos (by omega)]
    · rw [if_neg e2, if_neg (by omega)]
theorem s_zero_1 {R : Row} {k : Nat} : s_zero R k 1 = R 1 := by simp only [s_zero]; rw [if_neg (by omega)]
theorem s_new_eq {R : Row} {pl w : Int32} : upd (upd (upd (s_zero R 5) (12 + 5 * nR R + 0) pl) (12 + 5 * nR R + 1) w) 1 (R 1 + 1) = s_newRoof R pl w := by
  funext j
  simp only [s_newRoof, upd, s_zero]
  by_cases h1 : j = 1
  · simp [h1]
  · by_cases e : 12 + 5 * nR R ≤ j ∧ j < 12 + 5 * nR R + 5
    · rcases (show j = 12 + 5 * nR R ∨ j = 12 + 5 * nR R + 1 ∨ j = 12 + 5 * nR R + 2 ∨ j = 12 + 5 * nR R + 3 ∨ j = 12 + 5 * nR R + 4 by omega) with rfl | rfl | rfl | rfl | rfl <;> simp
    · have n0 : j ≠ 12 + 5 * nR R := by omega
      have n1 : j ≠ 12 + 5 * nR R + 1 := by omega
      have n2 : j ≠ 12 + 5 * nR R + 2 := by omega
      have n3 : j ≠ 12 + 5 * nR R + 3 := by omega
      have n4 : j ≠ 12 + 5 * nR R + 4 := by omega
      simp [h1, e, n0, n1, n2, n3, n4]
theorem mc_X6_roof {l : Launch} (ht : l.stackTraces = false) {g : gT} {h : hp} {A : Nat → Nat} (hA : mOK A) {I R : Nat → Int32} {N : Nat → Nat → Int32} (pl w : Int32) (h1 : R 1 = nI (nR R)) (h18 : nR R ≤ 8) {c : Nat} (hc : I 6 = nI c) (hc8 : c ≤ 8) : MM l g yX6_roof kX6_roof [.ref (A 21), .int pl, .int w] (mW h A I R N) (mPost (o_roof R pl w) h A I R N) (noX) (0) (0) := by
  refine MM.of (by decide) rfl rfl rfl (List.forall_mem_cons.mpr ⟨rfl, List.forall_mem_cons.mpr ⟨rfl, List.forall_mem_cons.mpr ⟨rfl, fun _ h => absurd h List.not_mem_nil⟩⟩⟩) (Nat.le_of_ble_eq_true rfl) ht fun X => ?_
  show Wk _ _ _ _ _ _ _ _ _ [some (.ref (A 21)), some (.int pl), some (.int w), none, none, none] _ _
  refine Wk.gen fun PP hPP => ?_
  have loop : inB pl 0 60 = true → inB w 0 9 = true → s_roofAt R pl = none → ¬ R 1 = 8 → ∀ d i, i + d = 5 → Wk l g X kX6_roof PP noX 0 0 91 [some (.ref (A 21)), some (.int pl), some (.int w), some (.int (rfo (s_roofAt R pl))), some (.int (nI (nR R))), some (.int (nI i))] [] (mW h A (uI I 5 0) (s_zero R i) (mBf R N)) := by
    intro hpl hw hno hn8
    have hR8 : nR R < 8 := by
      rcases Nat.lt_or_ge (nR R) 8 with e | e
      · exact e
      · exact absurd (h1.trans (show nI (nR R) = 8 by rw [show nR R = 8 by omega]; decide)) hn8
    intro d
    induction d with
    | zero =>
      intro i hid 
      have hi : i = 5 := by omega
      refine k_il5 dX6_roof_91 ?_
      refine k_iconst (v := 5) dX6_roof_93 rfl ?_
      refine k_icmp_ge (tgt := 112) dX6_roof_94 (by decide) (fun c_94 => ?_) (fun c_94 => absurd ((show (5 : Int32) ≤ nI i by rw [hi]; decide)) c_94)
      subst hi
      refine k_al0 dX6_roof_112 ?_
      refine k_il4 dX6_roof_113 ?_
      refine k_iconst (v := 0) dX6_roof_115 rfl ?_
      refine k_il1 dX6_roof_116 ?_
      refine k_cVV3 cvX6_120_5 dX6_roof_117 (mc_X6_lr ht hA (by exact rfl) (by exact rfl) (by omega) (by decide)) (mW_mo hA) (Nat.le_of_eq (Nat.zero_add _)) (Nat.le_of_eq (Nat.zero_add _)) (fun h_117 e_117 => ?_)
      subst e_117
      refine k_al0 dX6_roof_120 ?_
      refine k_il4 dX6_roof_121 ?_
      refine k_iconst (v := 1) dX6_roof_123 rfl ?_
      refine k_il2 dX6_roof_124 ?_
      refine k_cVV3 cvX6_120_5 dX6_roof_125 (mc_X6_lr ht hA (by exact rfl) (by exact rfl) (by omega) (by decide)) (mW_mo hA) (Nat.le_of_eq (Nat.zero_add _)) (Nat.le_of_eq (Nat.zero_add _)) (fun h_125 e_125 => ?_)
      subst e_125
      refine k_al0 dX6_roof_128 ?_
      refine m_g0 hA fgX6_7_5 dX6_roof_129 ?_
      refine k_iconst (v := 1) dX6_roof_132 rfl ?_
      refine k_dup2 dX6_roof_133 ?_
      refine m_ldn hA dX6_roof_134 (⟨rfl, by decide⟩ : ixI _ 1) (by decide) ?_
      rw [upd_n (by omega), upd_n (by omega), s_zero_1]
      refine k_iconst (v := 1) dX6_roof_135 rfl ?_
      refine k_iadd dX6_roof_136 ?_
      refine m_stn hA dX6_roof_137 (⟨rfl, by decide⟩ : ixI _ 1) (by decide) ?_
      rw [s_new_eq]
      refine k_al0 dX6_roof_138 ?_
      refine k_al0 dX6_roof_139 ?_
      refine m_g0 hA fgX6_7_5 dX6_roof_140 ?_
      refine k_iconst (v := 1) dX6_roof_143 rfl ?_
      refine m_ldn hA dX6_roof_144 (⟨rfl, by decide⟩ : ixI _ 1) (by decide) ?_
      rw [show s_newRoof R pl w 1 = R 1 + 1 by simp [s_newRoof, upd]]
      refine k_cVI1 cvX6_101_5 dX6_roof_145 (mc_X6_keeps ht hA _ (c := c) (by simp [uI]; exact hc) hc8) (mW_mo hA) (Nat.le_of_eq (Nat.zero_add _)) (Nat.le_of_eq (Nat.zero_add _)) (fun r_145 h_145 e_145 => ?_)
      exact k_iret dX6_roof_148 rfl rfl (by obtain ⟨rfl, I', N', hk, rfl⟩ := e_145; rw [hPP, show o_roof R pl w = oOk (R 1 + 1) (s_newRoof R pl w) by unfold o_roof; rw [if_neg (by simp [hpl]), if_neg (by simp [hw]), hno]; simp only; rw [if_neg hn8]]; exact ⟨_, rfl, rfl, I', N', mOut_ok hk (by simp [uI]) (fun k h5 h7 h8 _ _ _ => by simp [uI, h5, h7, h8]), rfl⟩)
    | succ d ih =>
      intro i hid 
      have hi : i < 5 := by omega
      refine k_il5 dX6_roof_91 ?_
      refine k_iconst (v := 5) dX6_roof_93 rfl ?_
      refine k_icmp_ge (tgt := 112) dX6_roof_94 (by decide) (fun c_94 => absurd c_94 ((show ¬ (5 : Int32) ≤ nI i from nI_ge hi (by decide)))) (fun c_94 => ?_)
      refine k_al0 dX6_roof_97 ?_
      refine k_il4 dX6_roof_98 ?_
      refine k_il5 dX6_roof_100 ?_
      refine k_iconst (v := 0) dX6_roof_102 rfl ?_
      refine k_cVV3 cvX6_120_5 dX6_roof_103 (mc_X6_lr ht hA (by exact rfl) (by exact rfl) (by omega) (by omega)) (mW_mo hA) (Nat.le_of_eq (Nat.zero_add _)) (Nat.le_of_eq (Nat.zero_add _)) (fun h_103 e_103 => ?_)
      subst e_103
      rw [s_zero_s]
      refine k_ic5 (v := nI (i + 1)) dX6_roof_106 (nI_1 i) (Nat.le_of_ble_eq_true rfl) ?_
      refine k_goto (tgt := 91) dX6_roof_109 (by decide) ?_
      exact ih (i + 1) (by omega)
  have tail : inB pl 0 60 = true → inB w 0 9 = true → Wk l g X kX6_roof PP noX 0 0 27 [some (.ref (A 21)), some (.int pl), some (.int w), none, none, none] [] (mW h A (uI I 5 0) R (mBf R N)) := by
    intro hpl hw
    refine k_al0 dX6_roof_27 ?_
    refine k_il1 dX6_roof_28 ?_
    refine k_cVI1 cvX6_110_5 dX6_roof_29 (mc_X6_roofAtPlace ht hA _ h1 h18) (mW_mo hA) (Nat.le_of_eq (Nat.zero_add _)) (Nat.le_of_eq (Nat.zero_add _)) (fun r_29 h_29 e_29 => ?_)
    obtain ⟨rfl, rfl⟩ := e_29
    refine k_is3 dX6_roof_32 (Nat.le_of_ble_eq_true rfl) ?_
    refine k_il3 dX6_roof_33 ?_
    refine k_if_lt (tgt := 57) dX6_roof_34 (by decide) (fun c_34 => ?_) (fun c_34 => ?_)
    · have hno : s_roofAt R pl = none := rfo_lt (s_roofAt_b h18) c_34
      refine k_al0 dX6_roof_57 ?_
      refine m_g0 hA fgX6_7_5 dX6_roof_58 ?_
      refine k_iconst (v := 1) dX6_roof_61 rfl ?_
      refine m_ldn hA dX6_roof_62 (⟨rfl, by decide⟩ : ixI _ 1) (by decide) ?_
      rw [h1]
      refine k_is4 dX6_roof_63 (Nat.le_of_ble_eq_true rfl) ?_
      refine k_il4 dX6_roof_65 ?_
      refine k_bipush (v := 8) dX6_roof_67 rfl ?_
      refine k_icmp_ne (tgt := 88) dX6_roof_69 (by decide) (fun c_69 => ?_) (fun c_69 => ?_)
      · have hn8 : ¬ R 1 = 8 := by rw [h1]; exact c_69
        refine k_iconst (v := 0) dX6_roof_88 rfl ?_
        refine k_is5 dX6_roof_89 (Nat.le_of_ble_eq_true rfl) ?_
        have hz := loop hpl hw hno hn8 5 0 rfl
        rw [s_zero_0] at hz
        exact hz
      · refine k_al0 dX6_roof_72 ?_
        refine k_iconst (v := 1) dX6_roof_73 rfl ?_
        refine k_bipush (v := 8) dX6_roof_74 rfl ?_
        refine k_cVI2 cvX6_113_5 dX6_roof_76 (mc_X6_isBad ht hA _ _) (mW_mo hA) (Nat.le_of_eq (Nat.zero_add _)) (Nat.le_of_eq (Nat.zero_add _)) (fun r_76 h_76 e_76 => ?_)
        obtain ⟨rfl, rfl⟩ := e_76
        refine k_if_eq (tgt := 88) dX6_roof_79 (by decide) (fun c_79 => absurd c_79 ((by decide))) (fun c_79 => ?_)
        refine k_al0 dX6_roof_82 ?_
        refine k_iconst (v := 2) dX6_roof_83 rfl ?_
        refine k_cVI1 cvX6_117_5 dX6_roof_84 (mc_X6_refused ht hA _) (mW_mo hA) (Nat.le_of_eq (Nat.zero_add _)) (Nat.le_of_eq (Nat.zero_add _)) (fun r_84 h_84 e_84 => ?_)
        obtain ⟨rfl, rfl⟩ := e_84
        exact k_iret dX6_roof_87 rfl rfl (by rw [hPP, show o_roof R pl w = oRf 2 1 8 R by unfold o_roof; rw [if_neg (by simp [hpl]), if_neg (by simp [hw]), hno]; simp only; rw [if_pos (h1.trans c_69)]]; exact ⟨_, rfl, rfl, _, _, mOut_rf (by decide) (by simp [uI]) (by simp [uI]) (by simp [uI]) (fun k h5 h7 h8 h9 h10 _ _ _ => by simp [uI, h5, h7, h8, h9, h10]), rfl⟩)
    · obtain ⟨r, hr⟩ := rfo_ge c_34
      have hr8 := s_roofAt_lt hr
      refine k_al0 dX6_roof_37 ?_
      refine k_iconst (v := 2) dX6_roof_38 rfl ?_
      refine k_al0 dX6_roof_39 ?_
      refine k_il3 dX6_roof_40 ?_
      refine Wk.top (v' := .int (nI r)) (by rw [hr]; rfl) ?_
      refine k_iconst (v := 1) dX6_roof_41 rfl ?_
      refine k_cVI2 cvX6_104_5 dX6_roof_42 (mc_X6_rv ht hA (by exact rfl) (by exact rfl) (by omega) (by decide)) (mW_mo hA) (Nat.le_of_eq (Nat.zero_add _)) (Nat.le_of_eq (Nat.zero_add _)) (fun r_42 h_42 e_42 => ?_)
      obtain ⟨rfl, rfl⟩ := e_42
      refine k_cVI2 cvX6_113_5 dX6_roof_45 (mc_X6_isBad ht hA _ _) (mW_mo hA) (Nat.le_of_eq (Nat.zero_add _)) (Nat.le_of_eq (Nat.zero_add _)) (fun r_45 h_45 e_45 => ?_)
      obtain ⟨rfl, rfl⟩ := e_45
      refine k_if_eq (tgt := 57) dX6_roof_48 (by decide) (fun c_48 => absurd c_48 ((by decide))) (fun c_48 => ?_)
      refine k_al0 dX6_roof_51 ?_
      refine k_iconst (v := 2) dX6_roof_52 rfl ?_
      refine k_cVI1 cvX6_117_5 dX6_roof_53 (mc_X6_refused ht hA _) (mW_mo hA) (Nat.le_of_eq (Nat.zero_add _)) (Nat.le_of_eq (Nat.zero_add _)) (fun r_53 h_53 e_53 => ?_)
      obtain ⟨rfl, rfl⟩ := e_53
      exact k_iret dX6_roof_56 rfl rfl (by rw [hPP, show o_roof R pl w = oRf 2 2 (R (12 + 5 * r + 1)) R by unfold o_roof; rw [if_neg (by simp [hpl]), if_neg (by simp [hw]), hr]]; exact ⟨_, rfl, rfl, _, _, mOut_rf (by decide) (by simp [uI]) (by simp [uI]) (by simp [uI]) (fun k h5 h7 h8 h9 h10 _ _ _ => by simp [uI, h5, h7, h8, h9, h10]), rfl⟩)
  refine k_al0 dX6_roof_0 ?_
  refine k_cVV0 cvX6_87_5 dX6_roof_1 (mc_X6_begins ht hA) (mW_mo hA) (Nat.le_of_eq (Nat.zero_add _)) (Nat.le_of_eq (Nat.zero_add _)) (fun h_1 e_1 => ?_)
  subst e_1
  refine k_il1 dX6_roof_4 ?_
  refine k_cSI1 csX6_107 dX6_roof_5 (mc_X6_isPlace ht _) (Nat.le_of_eq (Nat.zero_add _)) (Nat.le_of_eq (Nat.zero_add _)) (fun r_5 h_5 e_5 => ?_)
  obtain ⟨rfl, rfl⟩ := e_5
  refine k_if_eq (tgt := 21) dX6_roof_8 (by decide) (fun c_8 => ?_) (fun c_8 => ?_)
  · refine k_al0 dX6_roof_21 ?_
    refine k_iconst (v := 1) dX6_roof_22 rfl ?_
    refine k_cVI1 cvX6_75_5 dX6_roof_23 (mc_X6_no ht hA _) (mW_mo hA) (Nat.le_of_eq (Nat.zero_add _)) (Nat.le_of_eq (Nat.zero_add _)) (fun r_23 h_23 e_23 => ?_)
    obtain ⟨rfl, rfl⟩ := e_23
    exact k_iret dX6_roof_26 rfl rfl (by rw [hPP, show o_roof R pl w = oNo 1 R by unfold o_roof; first | rw [if_pos (bI_0.mp c_8)] | rw [if_neg (by rw [bI_n0.mp c_8]; decide), if_pos (bI_0.mp (by simpa using c_18))]]; exact ⟨_, rfl, rfl, _, _, mOut_no (by decide) (by simp [uI]) (fun k h5 h7 h8 _ _ _ => by simp [uI, h5, h7, h8]), rfl⟩)
  · refine k_il2 dX6_roof_11 ?_
    refine k_iconst (v := 0) dX6_roof_12 rfl ?_
    refine k_bipush (v := 9) dX6_roof_13 rfl ?_
    refine k_cSI3 csX6_83 dX6_roof_15 (mc_X6_in ht _ _ _) (Nat.le_of_eq (Nat.zero_add _)) (Nat.le_of_eq (Nat.zero_add _)) (fun r_15 h_15 e_15 => ?_)
    obtain ⟨rfl, rfl⟩ := e_15
    refine k_if_ne (tgt := 27) dX6_roof_18 (by decide) (fun c_18 => ?_) (fun c_18 => ?_)
    · exact tail (bI_n0.mp c_8) (bI_n0.mp c_18)
    · refine k_al0 dX6_roof_21 ?_
      refine k_iconst (v := 1) dX6_roof_22 rfl ?_
      refine k_cVI1 cvX6_75_5 dX6_roof_23 (mc_X6_no ht hA _) (mW_mo hA) (Nat.le_of_eq (Nat.zero_add _)) (Nat.le_of_eq (Nat.zero_add _)) (fun r_23 h_23 e_23 => ?_)
      obtain ⟨rfl, rfl⟩ := e_23
      exact k_iret dX6_roof_26 rfl rfl (by rw [hPP, show o_roof R pl w = oNo 1 R by unfold o_roof; first | rw [if_pos (bI_0.mp c_8)] | rw [if_neg (by rw [bI_n0.mp c_8]; decide), if_pos (bI_0.mp (by simpa using c_18))]]; exact ⟨_, rfl, rfl, _, _, mOut_no (by decide) (by simp [uI]) (fun k h5 h7 h8 _ _ _ => by simp [uI, h5, h7, h8]), rfl⟩)
