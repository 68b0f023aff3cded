/-! THE MODEL: contracts of its methods, 14 (printed by tools/mk_model14.py) -/
set_option maxRecDepth 100000
theorem fgX6_38_5 : FGs "TissueBalloonsModel" 38 5 9 := ⟨RX6, TX6, 21, RX6, rfl, by decide, in_X6, Or.inl q3102, Or.inl rfl⟩
theorem fgX6_41_5 : FGs "TissueBalloonsModel" 41 5 10 := ⟨RX6, TX6, 21, RX6, rfl, by decide, in_X6, Or.inl q3103, Or.inl rfl⟩
theorem cvX6_245_5 : CVs "TissueBalloonsModel" 245 5 yX6_busy kX6_busy 0 := ⟨⟨TX6, 21, rfl⟩, q3477, q3479, qs76, q100, q3480, ⟨by decide, by decide⟩, rfl⟩
theorem cvX6_242_5 : CVs "TissueBalloonsModel" 242 5 yX6_inState kX6_inState 1 := ⟨⟨TX6, 21, rfl⟩, q3473, q3475, qs75, q100, q3476, ⟨by decide, by decide⟩, rfl⟩
theorem mc_X6_append {l : Launch} (ht : l.stackTraces = false) {g : gT} {h : hp} {A : Nat → Nat} (hA : mOK A) {I R : Nat → Int32} {N : Nat → Nat → Int32} (c : Int32) {n : Nat} (hf : I 16 = nI n) (hn : n ≤ 60) : MM l g yX6_append kX6_append [.ref (A 21), .int c] (mW h A I R N) (pI fun v_ h' => (n = 60 ∧ v_ = 0 ∧ h' = mW h A (uI (uI I 5 0) 5 1) R N) ∨ (n < 60 ∧ v_ = nI (n + 1) ∧ h' = mW h A (uI (uI I 5 0) 16 (nI (n + 1))) R (uA N 12 (upd (N 12) n c)))) (noX) (0) (0) := by
  refine MM.of (by decide) rfl rfl rfl (List.forall_mem_cons.mpr ⟨rfl, List.forall_mem_cons.mpr ⟨rfl, fun _ h => absurd h List.not_mem_nil⟩⟩) (Nat.le_of_ble_eq_true rfl) ht fun X => ?_
  show Wk _ _ _ _ _ _ _ _ _ [some (.ref (A 21)), some (.int c)] _ _
  refine Wk.gen fun PP hPP => ?_
  refine k_al0 dX6_append_0 ?_
  refine k_iconst (v := 0) dX6_append_1 rfl ?_
  refine m_p5 hA fpX6_25_5 dX6_append_2 ?_
  refine k_al0 dX6_append_5 ?_
  refine m_g16 hA fgX6_60_5 dX6_append_6 ?_
  rw [uI_n (by decide), hf]
  refine k_bipush (v := 60) dX6_append_9 rfl ?_
  refine k_icmp_ne (tgt := 20) dX6_append_11 (by decide) (fun c_11 => ?_) (fun c_11 => ?_)
  · have hlt : n < 60 := by
      rcases Nat.lt_or_ge n 60 with e | e
      · exact e
      · exact absurd (show nI n = 60 by rw [show n = 60 by omega]; decide) c_11
    refine k_al0 dX6_append_20 ?_
    refine m_g12 hA fgX6_48_5 dX6_append_21 ?_
    refine k_al0 dX6_append_24 ?_
    refine m_g16 hA fgX6_60_5 dX6_append_25 ?_
    rw [uI_n (by decide), hf]
    refine k_il1 dX6_append_28 ?_
    refine m_st hA (by decide) (by decide) (by decide) dX6_append_29 (ixI_n (by omega)) (show n < 60 by omega) ?_
    refine k_al0 dX6_append_30 ?_
    refine k_dup dX6_append_31 ?_
    refine m_g16 hA fgX6_60_5 dX6_append_32 ?_
    rw [uI_n (by decide), hf]
    refine k_iconst (v := 1) dX6_append_35 rfl ?_
    refine k_iadd dX6_append_36 ?_
    refine Wk.top (v' := .int (nI (n + 1))) (congrArg Value.int (nI_1 n)) ?_
    refine m_p16 hA fpX6_60_5 dX6_append_37 ?_
    refine k_al0 dX6_append_40 ?_
    refine m_g16 hA fgX6_60_5 dX6_append_41 ?_
    rw [uI_s]
    exact k_iret dX6_append_44 rfl rfl (by rw [hPP]; exact ⟨_, rfl, Or.inr ⟨hlt, rfl, rfl⟩⟩)
  · refine k_al0 dX6_append_14 ?_
    refine k_iconst (v := 1) dX6_append_15 rfl ?_
    refine k_cVI1 cvX6_75_5 dX6_append_16 (mc_X6_no ht hA _) (mW_mo hA) (Nat.le_of_eq (Nat.zero_add _)) (Nat.le_of_eq (Nat.zero_add _)) (fun r_16 h_16 e_16 => ?_)
    obtain ⟨rfl, rfl⟩ := e_16
    exact k_iret dX6_append_19 rfl rfl (by rw [hPP]; exact ⟨_, rfl, Or.inl ⟨(nI_eq (by omega) (by decide)).mp (show nI n = nI 60 from (show nI n = (60 : Int32) by simpa using c_11)), rfl, rfl⟩⟩)
theorem mc_X6_refusal {l : Launch} (ht : l.stackTraces = false) {g : gT} {h : hp} {A : Nat → Nat} (hA : mOK A) {I R : Nat → Int32} {N : Nat → Nat → Int32} (b : Int32) : MM l g yX6_refusal kX6_refusal [.ref (A 21), .int b] (mW h A I R N) (mQry (if I 9 = 0 then (1, 0) else (0, if b = 0 then I 9 else I 10)) h A I R N) (noX) (0) (0) := by
  refine MM.of (by decide) rfl rfl rfl (List.forall_mem_cons.mpr ⟨rfl, List.forall_mem_cons.mpr ⟨rfl, fun _ h => absurd h List.not_mem_nil⟩⟩) (Nat.le_of_ble_eq_true rfl) ht fun X => ?_
  show Wk _ _ _ _ _ _ _ _ _ [some (.ref (A 21)), some (.int b)] _ _
  refine Wk.gen fun PP hPP => ?_
  refine k_al0 dX6_refusal_0 ?_
  refine k_iconst (v := 0) dX6_refusal_1 rfl ?_
  refine m_p5 hA fpX6_25_5 dX6_refusal_2 ?_
  refine k_al0 dX6_refusal_5 ?_
  refine m_g9 hA fgX6_38_5 dX6_refusal_6 ?_
  rw [uI_n (by decide)]
  refine k_if_ne (tgt := 18) dX6_refusal_9 (by decide) (fun c_9 => ?_) (fun c_9 => ?_)
  · refine k_il1 dX6_refusal_18 ?_
    refine k_if_eq (tgt := 29) dX6_refusal_19 (by decide) (fun c_19 => ?_) (fun c_19 => ?_)
    · refine k_al0 dX6_refusal_29 ?_
      refine m_g9 hA fgX6_38_5 dX6_refusal_30 ?_
      rw [uI_n (by decide)]
      exact k_iret dX6_refusal_33 rfl rfl (by rw [hPP, show (if I 9 = 0 then (1, 0) else (0, if b = 0 then I 9 else I 10) : Qa) = (0, I 9) from (by rw [if_neg c_9, if_pos c_19])]; exact ⟨_, rfl, rfl, by first | rfl | rw [uI_uI]⟩)
    · refine k_al0 dX6_refusal_22 ?_
      refine m_g10 hA fgX6_41_5 dX6_refusal_23 ?_
      rw [uI_n (by decide)]
      refine k_goto (tgt := 33) dX6_refusal_26 (by decide) ?_
      exact k_iret dX6_refusal_33 rfl rfl (by rw [hPP, show (if I 9 = 0 then (1, 0) else (0, if b = 0 then I 9 else I 10) : Qa) = (0, I 10) from (by rw [if_neg c_9, if_neg c_19])]; exact ⟨_, rfl, rfl, by first | rfl | rw [uI_uI]⟩)
  · refine k_al0 dX6_refusal_12 ?_
    refine k_iconst (v := 1) dX6_refusal_13 rfl ?_
    refine k_cVI1 cvX6_75_5 dX6_refusal_14 (mc_X6_no ht hA _) (mW_mo hA) (Nat.le_of_eq (Nat.zero_add _)) (Nat.le_of_eq (Nat.zero_add _)) (fun r_14 h_14 e_14 => ?_)
    obtain ⟨rfl, rfl⟩ := e_14
    exact k_iret dX6_refusal_17 rfl rfl (by rw [hPP, show (if I 9 = 0 then (1, 0) else (0, if b = 0 then I 9 else I 10) : Qa) = (1, 0) from (by rw [if_pos (by simpa using c_9)])]; exact ⟨_, rfl, rfl, by first | rfl | rw [uI_uI]⟩)
theorem mc_X6_inState {l : Launch} (ht : l.stackTraces = false) {g : gT} {h : hp} {A : Nat → Nat} (hA : mOK A) {I R : Nat → Int32} {N : Nat → Nat → Int32} (st : Int32) (h2 : R 2 = nI (nB R)) (h28 : nB R ≤ 20) : MM l g yX6_inState kX6_inState [.ref (A 21), .int st] (mW h A I R N) (pI fun v_ h' => v_ = s_inSt R st ∧ h' = mW h A (I) (R) (N)) (noX) (0) (0) := by
  refine MM.of (by decide) rfl rfl rfl (List.forall_mem_cons.mpr ⟨rfl, List.forall_mem_cons.mpr ⟨rfl, fun _ h => absurd h List.not_mem_nil⟩⟩) (Nat.le_of_ble_eq_true rfl) ht fun X => ?_
  show Wk _ _ _ _ _ _ _ _ _ [some (.ref (A 21)), some (.int st), none, none] _ _
  refine Wk.gen fun PP hPP => ?_
  have loop : ∀ d i, i + d = nB R → Wk l g X kX6_inState PP noX 0 0 4 [some (.ref (A 21)), some (.int st), some (.int (s_sum i (fun b => if R (52 + 7 * b + 0) = st then 1 else 0))), some (.int (nI i))] [] (mW h A I R N) := by
    intro d
    induction d with
    | zero =>
      intro i hid 
      have hi : i = nB R := by omega
      refine k_il3 dX6_inState_4 ?_
      refine k_al0 dX6_inState_5 ?_
      refine m_g0 hA fgX6_7_5 dX6_inState_6 ?_
      refine k_iconst (v := 2) dX6_inState_9 rfl ?_
      refine m_ldn hA dX6_inState_10 (⟨rfl, by decide⟩ : ixI _ 2) (by decide) ?_
      rw [h2]
      refine k_icmp_ge (tgt := 38) dX6_inState_11 (by decide) (fun c_11 => ?_) (fun c_11 => absurd ((show nI (nB R) ≤ nI i by rw [hi]; exact Int32.le_refl _)) c_11)
      refine k_il2 dX6_inState_38 ?_
      exact k_iret dX6_inState_39 rfl rfl (by rw [hPP, hi]; exact ⟨_, rfl, rfl, rfl⟩)
    | succ d ih =>
      intro i hid 
      have hi : i < nB R := by omega
      refine k_il3 dX6_inState_4 ?_
      refine k_al0 dX6_inState_5 ?_
      refine m_g0 hA fgX6_7_5 dX6_inState_6 ?_
      refine k_iconst (v := 2) dX6_inState_9 rfl ?_
      refine m_ldn hA dX6_inState_10 (⟨rfl, by decide⟩ : ixI _ 2) (by decide) ?_
      rw [h2]
      refine k_icmp_ge (tgt := 38) dX6_inState_11 (by decide) (fun c_11 => absurd c_11 (nI_ge hi (by omega))) (fun c_11 => ?_)
      refine k_il2 dX6_inState_14 ?_
      refine k_al0 dX6_inState_15 ?_
      refine k_il3 dX6_inState_16 ?_
      refine k_iconst (v := 0) dX6_inState_17 rfl ?_
      refine k_cVI2 cvX6_140_5 dX6_inState_18 (mc_X6_bv ht hA (j := 0) (by exact rfl) rfl (by omega) (by decide)) (mW_mo hA) (Nat.le_of_eq (Nat.zero_add _)) (Nat.le_of_eq (Nat.zero_add _)) (fun r_18 h_18 e_18 => ?_)
      obtain ⟨rfl, rfl⟩ := e_18
      refine k_il1 dX6_inState_21 ?_
      refine k_icmp_ne (tgt := 29) dX6_inState_22 (by decide) (fun c_22 => ?_) (fun c_22 => ?_)
      · refine k_iconst (v := 0) dX6_inState_29 rfl ?_
        refine k_iadd dX6_inState_30 ?_
        refine Wk.top (v' := .int (s_sum (i + 1) (fun b => if R (52 + 7 * b + 0) = st then 1 else 0))) (congrArg Value.int (show _ = s_sum i _ + (if R (52 + 7 * i + 0) = st then 1 else 0) by rw [if_neg c_22])) ?_
        refine k_is2 dX6_inState_31 (Nat.le_of_ble_eq_true rfl) ?_
        refine k_ic3 (v := nI (i + 1)) dX6_inState_32 (nI_1 i) (Nat.le_of_ble_eq_true rfl) ?_
        refine k_goto (tgt := 4) dX6_inState_35 (by decide) ?_
        exact ih (i + 1) (by omega)
      · refine k_iconst (v := 1) dX6_inState_25 rfl ?_
        refine k_goto (tgt := 30) dX6_inState_26 (by decide) ?_
        refine k_iadd dX6_inState_30 ?_
        refine Wk.top (v' := .int (s_sum (i + 1) (fun b => if R (52 + 7 * b + 0) = st then 1 else 0))) (congrArg Value.int (show _ = s_sum i _ + (if R (52 + 7 * i + 0) = st then 1 else 0) by rw [if_pos (by simpa using c_22)])) ?_
        refine k_is2 dX6_inState_31 (Nat.le_of_ble_eq_true rfl) ?_
        refine k_ic3 (v := nI (i + 1)) dX6_inState_32 (nI_1 i) (Nat.le_of_ble_eq_true rfl) ?_
        refine k_goto (tgt := 4) dX6_inState_35 (by decide) ?_
        exact ih (i + 1) (by omega)
  refine k_iconst (v := 0) dX6_inState_0 rfl ?_
  refine k_is2 dX6_inState_1 (Nat.le_of_ble_eq_true rfl) ?_
  refine k_iconst (v := 0) dX6_inState_2 rfl ?_
  refine k_is3 dX6_inState_3 (Nat.le_of_ble_eq_true rfl) ?_
  exact loop (nB R) 0 (by omega)
theorem mc_X6_busy {l : Launch} (ht : l.stackTraces = false) {g : gT} {h : hp} {A : Nat → Nat} (hA : mOK A) {I R : Nat → Int32} {N : Nat → Nat → Int32} (h3 : R 3 = nI (nC R)) (h38 : nC R ≤ 4) : MM l g yX6_busy kX6_busy [.ref (A 21)] (mW h A I R N) (pI fun v_ h' => v_ = s_busy R ∧ h' = mW h A (I) (R) (N)) (noX) (0) (0) := by
  refine MM.of (by decide) rfl rfl rfl (List.forall_mem_cons.mpr ⟨rfl, fun _ h => absurd h List.not_mem_nil⟩) (Nat.le_of_ble_eq_true rfl) ht fun X => ?_
  show Wk _ _ _ _ _ _ _ _ _ [some (.ref (A 21)), none, none] _ _
  refine Wk.gen fun PP hPP => ?_
  have loop : ∀ d i, i + d = nC R → Wk l g X kX6_busy PP noX 0 0 4 [some (.ref (A 21)), some (.int (s_sum i (fun c => if 0 < R (192 + 3 * c + 1) then 1 else 0))), some (.int (nI i))] [] (mW h A I R N) := by
    intro d
    induction d with
    | zero =>
      intro i hid 
      have hi : i = nC R := by omega
      refine k_il2 dX6_busy_4 ?_
      refine k_al0 dX6_busy_5 ?_
      refine m_g0 hA fgX6_7_5 dX6_busy_6 ?_
      refine k_iconst (v := 3) dX6_busy_9 rfl ?_
      refine m_ldn hA dX6_busy_10 (⟨rfl, by decide⟩ : ixI _ 3) (by decide) ?_
      rw [h3]
      refine k_icmp_ge (tgt := 37) dX6_busy_11 (by decide) (fun c_11 => ?_) (fun c_11 => absurd ((show nI (nC R) ≤ nI i by rw [hi]; exact Int32.le_refl _)) c_11)
      refine k_il1 dX6_busy_37 ?_
      exact k_iret dX6_busy_38 rfl rfl (by rw [hPP, hi]; exact ⟨_, rfl, rfl, rfl⟩)
    | succ d ih =>
      intro i hid 
      have hi : i < nC R := by omega
      refine k_il2 dX6_busy_4 ?_
      refine k_al0 dX6_busy_5 ?_
      refine m_g0 hA fgX6_7_5 dX6_busy_6 ?_
      refine k_iconst (v := 3) dX6_busy_9 rfl ?_
      refine m_ldn hA dX6_busy_10 (⟨rfl, by decide⟩ : ixI _ 3) (by decide) ?_
      rw [h3]
      refine k_icmp_ge (tgt := 37) dX6_busy_11 (by decide) (fun c_11 => absurd c_11 (nI_ge hi (by omega))) (fun c_11 => ?_)
      refine k_il1 dX6_busy_14 ?_
      refine k_al0 dX6_busy_15 ?_
      refine k_il2 dX6_busy_16 ?_
      refine k_iconst (v := 1) dX6_busy_17 rfl ?_
      refine k_cVI2 cvX6_155_5 dX6_busy_18 (mc_X6_cv ht hA (j := 1) (by exact rfl) rfl (by omega) (by decide)) (mW_mo hA) (Nat.le_of_eq (Nat.zero_add _)) (Nat.le_of_eq (Nat.zero_add _)) (fun r_18 h_18 e_18 => ?_)
      obtain ⟨rfl, rfl⟩ := e_18
      refine k_if_le (tgt := 28) dX6_busy_21 (by decide) (fun c_21 => ?_) (fun c_21 => ?_)
      · refine k_iconst (v := 0) dX6_busy_28 rfl ?_
        refine k_iadd dX6_busy_29 ?_
        refine Wk.top (v' := .int (s_sum (i + 1) (fun c => if 0 < R (192 + 3 * c + 1) then 1 else 0))) (congrArg Value.int (show _ = s_sum i _ + (if 0 < R (192 + 3 * i + 1) then 1 else 0) by rw [if_neg (Int32.not_lt.mpr c_21)])) ?_
        refine k_is1 dX6_busy_30 (Nat.le_of_ble_eq_true rfl) ?_
        refine k_ic2 (v := nI (i + 1)) dX6_busy_31 (nI_1 i) (Nat.le_of_ble_eq_true rfl) ?_
        refine k_goto (tgt := 4) dX6_busy_34 (by decide) ?_
        exact ih (i + 1) (by omega)
      · refine k_iconst (v := 1) dX6_busy_24 rfl ?_
        refine k_goto (tgt := 29) dX6_busy_25 (by decide) ?_
        refine k_iadd dX6_busy_29 ?_
        refine Wk.top (v' := .int (s_sum (i + 1) (fun c => if 0 < R (192 + 3 * c + 1) then 1 else 0))) (congrArg Value.int (show _ = s_sum i _ + (if 0 < R (192 + 3 * i + 1) then 1 else 0) by rw [if_pos (Int32.not_le.mp c_21)])) ?_
        refine k_is1 dX6_busy_30 (Nat.le_of_ble_eq_true rfl) ?_
        refine k_ic2 (v := nI (i + 1)) dX6_busy_31 (nI_1 i) (Nat.le_of_ble_eq_true rfl) ?_
        refine k_goto (tgt := 4) dX6_busy_34 (by decide) ?_
        exact ih (i + 1) (by omega)
  refine k_iconst (v := 0) dX6_busy_0 rfl ?_
  refine k_is1 dX6_busy_1 (Nat.le_of_ble_eq_true rfl) ?_
  refine k_iconst (v := 0) dX6_busy_2 rfl ?_
  refine k_is2 dX6_busy_3 (Nat.le_of_ble_eq_true rfl) ?_
  exact loop (nC R) 0 (by omega)
theorem mc_X6_account {l : Launch} (ht : l.stackTraces = false) {g : gT} {h : hp} {A : Nat → Nat} (hA : mOK A) {I R : Nat → Int32} {N : Nat → Nat → Int32} (what : Int32) (h1 : R 1 = nI (nR R)) (h18 : nR R ≤ 8) (h2 : R 2 = nI (nB R)) (h28 : nB R ≤ 20) (h3 : R 3 = nI (nC R)) (h38 : nC R ≤ 4) : MM l g yX6_account kX6_account [.ref (A 21), .int what] (mW h A I R N) (mQry (q_account R (I 16) (I 6) what) h A I R N) (noX) (0) (0) := by
  refine MM.of (by decide) rfl rfl rfl (List.forall_mem_cons.mpr ⟨rfl, List.forall_mem_cons.mpr ⟨rfl, fun _ h => absurd h List.not_mem_nil⟩⟩) (Nat.le_of_ble_eq_true rfl) ht fun X => ?_
  show Wk _ _ _ _ _ _ _ _ _ [some (.ref (A 21)), some (.int what)] _ _
  refine Wk.gen fun PP hPP => ?_
  refine k_al0 dX6_account_0 ?_
  refine k_iconst (v := 0) dX6_account_1 rfl ?_
  refine m_p5 hA fpX6_25_5 dX6_account_2 ?_
  refine k_il1 dX6_account_5 ?_
  refine k_iconst (v := 5) dX6_account_6 rfl ?_
  refine k_bipush (v := 9) dX6_account_7 rfl ?_
  refine k_cSI3 csX6_83 dX6_account_9 (mc_X6_in ht _ _ _) (Nat.le_of_eq (Nat.zero_add _)) (Nat.le_of_eq (Nat.zero_add _)) (fun r_9 h_9 e_9 => ?_)
  obtain ⟨rfl, rfl⟩ := e_9
  refine k_if_eq (tgt := 23) dX6_account_12 (by decide) (fun c_12 => ?_) (fun c_12 => ?_)
  · refine k_il1 dX6_account_23 ?_
    have hno : ¬ inB what 5 9 = true := by rw [bI_0.mp c_12]; decide
    by_cases hx : what.toInt < 0 ∨ 17 < what.toInt
    · refine k_tableOut (tgt := 197) dX6_account_24 hx (by decide) ?_
      refine k_al0 dX6_account_197 ?_
      refine k_iconst (v := 1) dX6_account_198 rfl ?_
      refine k_cVI1 cvX6_75_5 dX6_account_199 (mc_X6_no ht hA _) (mW_mo hA) (Nat.le_of_eq (Nat.zero_add _)) (Nat.le_of_eq (Nat.zero_add _)) (fun r_199 h_199 e_199 => ?_)
      obtain ⟨rfl, rfl⟩ := e_199
      exact k_iret dX6_account_202 rfl rfl (by rw [hPP, show q_account R (I 16) (I 6) what = (1, 0) from (acc_out hx hno)]; exact ⟨_, rfl, rfl, by first | rfl | rw [uI_uI]⟩)
    · rcases acc_cases (fun e => hx (Or.inl e)) (fun e => hx (Or.inr e)) hno with rfl | rfl | rfl | rfl | rfl | rfl | rfl | rfl | rfl | rfl | rfl | rfl | rfl
      · refine k_tableIn (x := 0) (off := 88) (tgt := 112) dX6_account_24 (by decide) (by decide) (by decide) (by decide) ?_
        refine k_al0 dX6_account_112 ?_
        refine m_g0 hA fgX6_7_5 dX6_account_113 ?_
        refine k_iconst (v := 0) dX6_account_116 rfl ?_
        refine m_ldn hA dX6_account_117 (⟨rfl, by decide⟩ : ixI _ 0) (by decide) ?_
        exact k_iret dX6_account_118 rfl rfl (by rw [hPP, show q_account R (I 16) (I 6) 0 = (0, R 0) from (by unfold q_account; rw [if_neg (by decide)]; rfl)]; exact ⟨_, rfl, rfl, by first | rfl | rw [uI_uI]⟩)
      · refine k_tableIn (x := 1) (off := 95) (tgt := 119) dX6_account_24 (by decide) (by decide) (by decide) (by decide) ?_
        refine k_al0 dX6_account_119 ?_
        refine m_g0 hA fgX6_7_5 dX6_account_120 ?_
        refine k_iconst (v := 1) dX6_account_123 rfl ?_
        refine m_ldn hA dX6_account_124 (⟨rfl, by decide⟩ : ixI _ 1) (by decide) ?_
        exact k_iret dX6_account_125 rfl rfl (by rw [hPP, show q_account R (I 16) (I 6) 1 = (0, R 1) from (by unfold q_account; rw [if_neg (by decide)]; rfl)]; exact ⟨_, rfl, rfl, by first | rfl | rw [uI_uI]⟩)
      · refine k_tableIn (x := 2) (off := 102) (tgt := 126) dX6_account_24 (by decide) (by decide) (by decide) (by decide) ?_
        refine k_al0 dX6_account_126 ?_
        refine k_iconst (v := 2) dX6_account_127 rfl ?_
        refine k_cVI1 cvX6_124_5 dX6_account_128 (mc_X6_roofsWith ht hA h1 h18 (w := 2) rfl (by decide)) (mW_mo hA) (Nat.le_of_eq (Nat.zero_add _)) (Nat.le_of_eq (Nat.zero_add _)) (fun r_128 h_128 e_128 => ?_)
        obtain ⟨rfl, rfl⟩ := e_128
        exact k_iret dX6_account_131 rfl rfl (by rw [hPP, show q_account R (I 16) (I 6) 2 = (0, s_with R 2) from (by unfold q_account; rw [if_neg (by decide)]; rfl)]; exact ⟨_, rfl, rfl, by first | rfl | rw [uI_uI]⟩)
      · refine k_tableIn (x := 3) (off := 108) (tgt := 132) dX6_account_24 (by decide) (by decide) (by decide) (by decide) ?_
        refine k_al0 dX6_account_132 ?_
        refine k_iconst (v := 3) dX6_account_133 rfl ?_
        refine k_cVI1 cvX6_124_5 dX6_account_134 (mc_X6_roofsWith ht hA h1 h18 (w := 3) rfl (by decide)) (mW_mo hA) (Nat.le_of_eq (Nat.zero_add _)) (Nat.le_of_eq (Nat.zero_add _)) (fun r_134 h_134 e_134 => ?_)
        obtain ⟨rfl, rfl⟩ := e_134
        exact k_iret dX6_account_137 rfl rfl (by rw [hPP, show q_account R (I 16) (I 6) 3 = (0, s_with R 3) from (by unfold q_account; rw [if_neg (by decide)]; rfl)]; exact ⟨_, rfl, rfl, by first | rfl | rw [uI_uI]⟩)
      · refine k_tableIn (x := 4) (off := 114) (tgt := 138) dX6_account_24 (by decide) (by decide) (by decide) (by decide) ?_
        refine k_al0 dX6_account_138 ?_
        refine m_g0 hA fgX6_7_5 dX6_account_139 ?_
        refine k_iconst (v := 2) dX6_account_142 rfl ?_
        refine m_ldn hA dX6_account_143 (⟨rfl, by decide⟩ : ixI _ 2) (by decide) ?_
        exact k_iret dX6_account_144 rfl rfl (by rw [hPP, show q_account R (I 16) (I 6) 4 = (0, R 2) from (by unfold q_account; rw [if_neg (by decide)]; rfl)]; exact ⟨_, rfl, rfl, by first | rfl | rw [uI_uI]⟩)
      · refine k_tableIn (x := 10) (off := 121) (tgt := 145) dX6_account_24 (by decide) (by decide) (by decide) (by decide) ?_
        refine k_al0 dX6_account_145 ?_
        refine m_g0 hA fgX6_7_5 dX6_account_146 ?_
        refine k_iconst (v := 3) dX6_account_149 rfl ?_
        refine m_ldn hA dX6_account_150 (⟨rfl, by decide⟩ : ixI _ 3) (by decide) ?_
        exact k_iret dX6_account_151 rfl rfl (by rw [hPP, show q_account R (I 16) (I 6) 10 = (0, R 3) from (by unfold q_account; rw [if_neg (by decide)]; rfl)]; exact ⟨_, rfl, rfl, by first | rfl | rw [uI_uI]⟩)
      · refine k_tableIn (x := 11) (off := 128) (tgt := 152) dX6_account_24 (by decide) (by decide) (by decide) (by decide) ?_
        refine k_al0 dX6_account_152 ?_
        refine k_cVI0 cvX6_245_5 dX6_account_153 (mc_X6_busy ht hA h3 h38) (mW_mo hA) (Nat.le_of_eq (Nat.zero_add _)) (Nat.le_of_eq (Nat.zero_add _)) (fun r_153 h_153 e_153 => ?_)
        obtain ⟨rfl, rfl⟩ := e_153
        exact k_iret dX6_account_156 rfl rfl (by rw [hPP, show q_account R (I 16) (I 6) 11 = (0, s_busy R) from (by unfold q_account; rw [if_neg (by decide)]; rfl)]; exact ⟨_, rfl, rfl, by first | rfl | rw [uI_uI]⟩)
      · refine k_tableIn (x := 12) (off := 133) (tgt := 157) dX6_account_24 (by decide) (by decide) (by decide) (by decide) ?_
        refine k_al0 dX6_account_157 ?_
        refine m_g0 hA fgX6_7_5 dX6_account_158 ?_
        refine k_iconst (v := 4) dX6_account_161 rfl ?_
        refine m_ldn hA dX6_account_162 (⟨rfl, by decide⟩ : ixI _ 4) (by decide) ?_
        exact k_iret dX6_account_163 rfl rfl (by rw [hPP, show q_account R (I 16) (I 6) 12 = (0, R 4) from (by unfold q_account; rw [if_neg (by decide)]; rfl)]; exact ⟨_, rfl, rfl, by first | rfl | rw [uI_uI]⟩)
      · refine k_tableIn (x := 13) (off := 140) (tgt := 164) dX6_account_24 (by decide) (by decide) (by decide) (by decide) ?_
        refine k_al0 dX6_account_164 ?_
        refine m_g0 hA fgX6_7_5 dX6_account_165 ?_
        refine k_iconst (v := 5) dX6_account_168 rfl ?_
        refine m_ldn hA dX6_account_169 (⟨rfl, by decide⟩ : ixI _ 5) (by decide) ?_
        exact k_iret dX6_account_170 rfl rfl (by rw [hPP, show q_account R (I 16) (I 6) 13 = (0, R 5) from (by unfold q_account; rw [if_neg (by decide)]; rfl)]; exact ⟨_, rfl, rfl, by first | rfl | rw [uI_uI]⟩)
      · refine k_tableIn (x := 14) (off := 147) (tgt := 171) dX6_account_24 (by decide) (by decide) (by decide) (by decide) ?_
        refine k_al0 dX6_account_171 ?_
        refine m_g0 hA fgX6_7_5 dX6_account_172 ?_
        refine k_bipush (v := 6) dX6_account_175 rfl ?_
        refine m_ldn hA dX6_account_177 (⟨rfl, by decide⟩ : ixI _ 6) (by decide) ?_
        exact k_iret dX6_account_178 rfl rfl (by rw [hPP, show q_account R (I 16) (I 6) 14 = (0, R 6) from (by unfold q_account; rw [if_neg (by decide)]; rfl)]; exact ⟨_, rfl, rfl, by first | rfl | rw [uI_uI]⟩)
      · refine k_tableIn (x := 15) (off := 155) (tgt := 179) dX6_account_24 (by decide) (by decide) (by decide) (by decide) ?_
        refine k_al0 dX6_account_179 ?_
        refine m_g0 hA fgX6_7_5 dX6_account_180 ?_
        refine k_bipush (v := 7) dX6_account_183 rfl ?_
        refine m_ldn hA dX6_account_185 (⟨rfl, by decide⟩ : ixI _ 7) (by decide) ?_
        exact k_iret dX6_account_186 rfl rfl (by rw [hPP, show q_account R (I 16) (I 6) 15 = (0, R 7) from (by unfold q_account; rw [if_neg (by decide)]; rfl)]; exact ⟨_, rfl, rfl, by first | rfl | rw [uI_uI]⟩)
      · refine k_tableIn (x := 16) (off := 163) (tgt := 187) dX6_account_24 (by decide) (by decide) (by decide) (by decide) ?_
        refine k_al0 dX6_account_187 ?_
        refine m_g16 hA fgX6_60_5 dX6_account_188 ?_
        rw [uI_n (by decide)]
        exact k_iret dX6_account_191 rfl rfl (by rw [hPP, show q_account R (I 16) (I 6) 16 = (0, I 16) from (by unfold q_account; rw [if_neg (by decide)]; rfl)]; exact ⟨_, rfl, rfl, by first | rfl | rw [uI_uI]⟩)
      · refine k_tableIn (x := 17) (off := 168) (tgt := 192) dX6_account_24 (by decide) (by decide) (by decide) (by decide) ?_
        refine k_al0 dX6_account_192 ?_
        refine m_g6 hA fgX6_29_5 dX6_account_193 ?_
        rw [uI_n (by decide)]
        exact k_iret dX6_account_196 rfl rfl (by rw [hPP, show q_account R (I 16) (I 6) 17 = (0, I 6) from (by unfold q_account; rw [if_neg (by decide)]; rfl)]; exact ⟨_, rfl, rfl, by first | rfl | rw [uI_uI]⟩)
  · refine k_al0 dX6_account_15 ?_
    refine k_il1 dX6_account_16 ?_
    refine k_iconst (v := 5) dX6_account_17 rfl ?_
    refine k_isub dX6_account_18 ?_
    refine k_cVI1 cvX6_242_5 dX6_account_19 (mc_X6_inState ht hA _ h2 h28) (mW_mo hA) (Nat.le_of_eq (Nat.zero_add _)) (Nat.le_of_eq (Nat.zero_add _)) (fun r_19 h_19 e_19 => ?_)
    obtain ⟨rfl, rfl⟩ := e_19
    exact k_iret dX6_account_22 rfl rfl (by rw [hPP, show q_account R (I 16) (I 6) what = (0, s_inSt R (what - 5)) from (by unfold q_account; rw [if_pos (bI_n0.mp c_12)])]; exact ⟨_, rfl, rfl, by first | rfl | rw [uI_uI]⟩)
theorem mc_X6_isWell {l : Launch} (ht : l.stackTraces = false) {g : gT} {h : hp} {A : Nat → Nat} (hA : mOK A) {I R : Nat → Int32} {N : Nat → Nat → Int32} (hR : RI R) : MM l g yX6_isWell kX6_isWell [.ref (A 21)] (mW h A I R N) (pI fun v_ h' => v_ = bI (s_well R) ∧ h' = mW h A (uI I 5 0) (R) (N)) (noX) (0) (0) := by
  refine MM.of (by decide) rfl rfl rfl (List.forall_mem_cons.mpr ⟨rfl, fun _ h => absurd h List.not_mem_nil⟩) (Nat.le_of_ble_eq_true rfl) ht fun X => ?_
  show Wk _ _ _ _ _ _ _ _ _ [some (.ref (A 21)), none, none, none] _ _
  refine Wk.gen fun PP hPP => ?_
  have h28 := hR.h28
  have h38 := hR.h38
  have loop2 : ∀ d i, i + d = nB R → Wk l g X kX6_isWell PP noX 0 0 38 [some (.ref (A 21)), some (.int (s_did R)), some (.int (s_sum i (fun b => R (52 + 7 * b + 6)))), some (.int (nI i))] [] (mW h A (uI I 5 0) R N) := by
    intro d
    induction d with
    | zero =>
      intro i hid 
      have hi : i = nB R := by omega
      refine k_il3 dX6_isWell_38 ?_
      refine k_al0 dX6_isWell_39 ?_
      refine m_g0 hA fgX6_7_5 dX6_isWell_40 ?_
      refine k_iconst (v := 2) dX6_isWell_43 rfl ?_
      refine m_ldn hA dX6_isWell_44 (⟨rfl, by decide⟩ : ixI _ 2) (by decide) ?_
      rw [hR.h2]
      refine k_icmp_ge (tgt := 85) dX6_isWell_45 (by decide) (fun c_45 => ?_) (fun c_45 => absurd ((show nI (nB R) ≤ nI i by rw [hi]; exact Int32.le_refl _)) c_45)
      rw [hi]
      show Wk _ _ _ _ _ _ _ _ _ [_, some (.int (s_did R)), some (.int (s_flew R)), _] _ _
      refine k_il1 dX6_isWell_85 ?_
      refine k_al0 dX6_isWell_86 ?_
      refine m_g0 hA fgX6_7_5 dX6_isWell_87 ?_
      refine k_bipush (v := 6) dX6_isWell_90 rfl ?_
      refine m_ldn hA dX6_isWell_92 (⟨rfl, by decide⟩ : ixI _ 6) (by decide) ?_
      refine k_icmp_ne (tgt := 133) dX6_isWell_93 (by decide) (fun c_93 => ?_) (fun c_93 => ?_)
      · refine k_iconst (v := 0) dX6_isWell_133 rfl ?_
        exact k_iret dX6_isWell_134 rfl rfl (by rw [hPP]; exact ⟨_, rfl, by rw [show s_well R = false from (by unfold s_well; exact decide_eq_false (fun e => by first | exact c_93 e.1 | exact c_115 e.2.1 | exact c_126 e.2.2))]; rfl, rfl⟩)
      · refine k_al0 dX6_isWell_96 ?_
        refine m_g0 hA fgX6_7_5 dX6_isWell_97 ?_
        refine k_iconst (v := 2) dX6_isWell_100 rfl ?_
        refine m_ldn hA dX6_isWell_101 (⟨rfl, by decide⟩ : ixI _ 2) (by decide) ?_
        refine k_al0 dX6_isWell_102 ?_
        refine k_iconst (v := 0) dX6_isWell_103 rfl ?_
        refine k_cVI1 cvX6_242_5 dX6_isWell_104 (mc_X6_inState ht hA _ hR.h2 h28) (mW_mo hA) (Nat.le_of_eq (Nat.zero_add _)) (Nat.le_of_eq (Nat.zero_add _)) (fun r_104 h_104 e_104 => ?_)
        obtain ⟨rfl, rfl⟩ := e_104
        refine k_isub dX6_isWell_107 ?_
        refine k_al0 dX6_isWell_108 ?_
        refine m_g0 hA fgX6_7_5 dX6_isWell_109 ?_
        refine k_bipush (v := 6) dX6_isWell_112 rfl ?_
        refine m_ldn hA dX6_isWell_114 (⟨rfl, by decide⟩ : ixI _ 6) (by decide) ?_
        refine k_icmp_ne (tgt := 133) dX6_isWell_115 (by decide) (fun c_115 => ?_) (fun c_115 => ?_)
        · refine k_iconst (v := 0) dX6_isWell_133 rfl ?_
          exact k_iret dX6_isWell_134 rfl rfl (by rw [hPP]; exact ⟨_, rfl, by rw [show s_well R = false from (by unfold s_well; exact decide_eq_false (fun e => by first | exact c_93 e.1 | exact c_115 e.2.1 | exact c_126 e.2.2))]; rfl, rfl⟩)
        · refine k_il2 dX6_isWell_118 ?_
          refine k_al0 dX6_isWell_119 ?_
          refine m_g0 hA fgX6_7_5 dX6_isWell_120 ?_
          refine k_bipush (v := 7) dX6_isWell_123 rfl ?_
          refine m_ldn hA dX6_isWell_125 (⟨rfl, by decide⟩ : ixI _ 7) (by decide) ?_
          refine k_icmp_ne (tgt := 133) dX6_isWell_126 (by decide) (fun c_126 => ?_) (fun c_126 => ?_)
          · refine k_iconst (v := 0) dX6_isWell_133 rfl ?_
            exact k_iret dX6_isWell_134 rfl rfl (by rw [hPP]; exact ⟨_, rfl, by rw [show s_well R = false from (by unfold s_well; exact decide_eq_false (fun e => by first | exact c_93 e.1 | exact c_115 e.2.1 | exact c_126 e.2.2))]; rfl, rfl⟩)
          · refine k_iconst (v := 1) dX6_isWell_129 rfl ?_
            refine k_goto (tgt := 134) dX6_isWell_130 (by decide) ?_
            exact k_iret dX6_isWell_134 rfl rfl (by rw [hPP]; exact ⟨_, rfl, by rw [show s_well R = true from (by unfold s_well; exact decide_eq_true ⟨by simpa using c_93, by simpa using c_115, by simpa using c_126⟩)]; rfl, rfl⟩)
    | succ d ih =>
      intro i hid 
      have hi : i < nB R := by omega
      refine k_il3 dX6_isWell_38 ?_
      refine k_al0 dX6_isWell_39 ?_
      refine m_g0 hA fgX6_7_5 dX6_isWell_40 ?_
      refine k_iconst (v := 2) dX6_isWell_43 rfl ?_
      refine m_ldn hA dX6_isWell_44 (⟨rfl, by decide⟩ : ixI _ 2) (by decide) ?_
      rw [hR.h2]
      refine k_icmp_ge (tgt := 85) dX6_isWell_45 (by decide) (fun c_45 => absurd c_45 (nI_ge hi (by omega))) (fun c_45 => ?_)
      refine k_il2 dX6_isWell_48 ?_
      refine k_al0 dX6_isWell_49 ?_
      refine k_il3 dX6_isWell_50 ?_
      refine k_bipush (v := 6) dX6_isWell_51 rfl ?_
      refine k_cVI2 cvX6_140_5 dX6_isWell_53 (mc_X6_bv ht hA (j := 6) (by exact rfl) rfl (by omega) (by decide)) (mW_mo hA) (Nat.le_of_eq (Nat.zero_add _)) (Nat.le_of_eq (Nat.zero_add _)) (fun r_53 h_53 e_53 => ?_)
      obtain ⟨rfl, rfl⟩ := e_53
      refine k_iadd dX6_isWell_56 ?_
      refine k_is2 dX6_isWell_57 (Nat.le_of_ble_eq_true rfl) ?_
      refine k_al0 dX6_isWell_58 ?_
      refine k_il3 dX6_isWell_59 ?_
      refine k_iconst (v := 0) dX6_isWell_60 rfl ?_
      refine k_cVI2 cvX6_140_5 dX6_isWell_61 (mc_X6_bv ht hA (j := 0) (by exact rfl) rfl (by omega) (by decide)) (mW_mo hA) (Nat.le_of_eq (Nat.zero_add _)) (Nat.le_of_eq (Nat.zero_add _)) (fun r_61 h_61 e_61 => ?_)
      obtain ⟨rfl, rfl⟩ := e_61
      refine k_if_ne (tgt := 79) dX6_isWell_64 (by decide) (fun c_64 => ?_) (fun c_64 => ?_)
      · refine k_ic3 (v := nI (i + 1)) dX6_isWell_79 (nI_1 i) (Nat.le_of_ble_eq_true rfl) ?_
        refine k_goto (tgt := 38) dX6_isWell_82 (by decide) ?_
        exact ih (i + 1) (by omega)
      · refine k_al0 dX6_isWell_67 ?_
        refine k_il3 dX6_isWell_68 ?_
        refine k_bipush (v := 6) dX6_isWell_69 rfl ?_
        refine k_cVI2 cvX6_140_5 dX6_isWell_71 (mc_X6_bv ht hA (j := 6) (by exact rfl) rfl (by omega) (by decide)) (mW_mo hA) (Nat.le_of_eq (Nat.zero_add _)) (Nat.le_of_eq (Nat.zero_add _)) (fun r_71 h_71 e_71 => ?_)
        obtain ⟨rfl, rfl⟩ := e_71
        refine k_if_le (tgt := 79) dX6_isWell_74 (by decide) (fun c_74 => ?_) (fun c_74 => absurd ((show R (52 + 7 * i + 6) ≤ 0 by rw [hR.ready0 hi (by simpa using c_64)]; exact Int32.le_refl _)) c_74)
        refine k_ic3 (v := nI (i + 1)) dX6_isWell_79 (nI_1 i) (Nat.le_of_ble_eq_true rfl) ?_
        refine k_goto (tgt := 38) dX6_isWell_82 (by decide) ?_
        exact ih (i + 1) (by omega)
  have loop : ∀ d i, i + d = nC R → Wk l g X kX6_isWell PP noX 0 0 9 [some (.ref (A 21)), some (.int (s_sum i (fun c => R (192 + 3 * c + 2)))), some (.int (nI i)), none] [] (mW h A (uI I 5 0) R N) := by
    intro d
    induction d with
    | zero =>
      intro i hid 
      have hi : i = nC R := by omega
      refine k_il2 dX6_isWell_9 ?_
      refine k_al0 dX6_isWell_10 ?_
      refine m_g0 hA fgX6_7_5 dX6_isWell_11 ?_
      refine k_iconst (v := 3) dX6_isWell_14 rfl ?_
      refine m_ldn hA dX6_isWell_15 (⟨rfl, by decide⟩ : ixI _ 3) (by decide) ?_
      rw [hR.h3]
      refine k_icmp_ge (tgt := 34) dX6_isWell_16 (by decide) (fun c_16 => ?_) (fun c_16 => absurd ((show nI (nC R) ≤ nI i by rw [hi]; exact Int32.le_refl _)) c_16)
      refine k_iconst (v := 0) dX6_isWell_34 rfl ?_
      refine k_is2 dX6_isWell_35 (Nat.le_of_ble_eq_true rfl) ?_
      refine k_iconst (v := 0) dX6_isWell_36 rfl ?_
      refine k_is3 dX6_isWell_37 (Nat.le_of_ble_eq_true rfl) ?_
      rw [hi]
      exact loop2 (nB R) 0 (by omega)
    | succ d ih =>
      intro i hid 
      have hi : i < nC R := by omega
      refine k_il2 dX6_isWell_9 ?_
      refine k_al0 dX6_isWell_10 ?_
      refine m_g0 hA fgX6_7_5 dX6_isWell_11 ?_
      refine k_iconst (v := 3) dX6_isWell_14 rfl ?_
      refine m_ldn hA dX6_isWell_15 (⟨rfl, by decide⟩ : ixI _ 3) (by decide) ?_
      rw [hR.h3]
      refine k_icmp_ge (tgt := 34) dX6_isWell_16 (by decide) (fun c_16 => absurd c_16 (nI_ge hi (by omega))) (fun c_16 => ?_)
      refine k_il1 dX6_isWell_19 ?_
      refine k_al0 dX6_isWell_20 ?_
      refine k_il2 dX6_isWell_21 ?_
      refine k_iconst (v := 2) dX6_isWell_22 rfl ?_
      refine k_cVI2 cvX6_155_5 dX6_isWell_23 (mc_X6_cv ht hA (j := 2) (by exact rfl) rfl (by omega) (by decide)) (mW_mo hA) (Nat.le_of_eq (Nat.zero_add _)) (Nat.le_of_eq (Nat.zero_add _)) (fun r_23 h_23 e_23 => ?_)
      obtain ⟨rfl, rfl⟩ := e_23
      refine k_iadd dX6_isWell_26 ?_
      refine k_is1 dX6_isWell_27 (Nat.le_of_ble_eq_true rfl) ?_
      refine k_ic2 (v := nI (i + 1)) dX6_isWell_28 (nI_1 i) (Nat.le_of_ble_eq_true rfl) ?_
      refine k_goto (tgt := 9) dX6_isWell_31 (by decide) ?_
      exact ih (i + 1) (by omega)
  refine k_al0 dX6_isWell_0 ?_
  refine k_iconst (v := 0) dX6_isWell_1 rfl ?_
  refine m_p5 hA fpX6_25_5 dX6_isWell_2 ?_
  refine k_iconst (v := 0) dX6_isWell_5 rfl ?_
  refine k_is1 dX6_isWell_6 (Nat.le_of_ble_eq_true rfl) ?_
  refine k_iconst (v := 0) dX6_isWell_7 rfl ?_
  refine k_is2 dX6_isWell_8 (Nat.le_of_ble_eq_true rfl) ?_
  exact loop (nC R) 0 (by omega)
theorem mc_X6_meanFlight {l : Launch} (ht : l.stackTraces = false) {g : gT} {h : hp} {A : Nat → Nat} (hA : mOK A) {I R : Nat → Int32} {N : Nat → Nat → Int32} (hq : ¬ R 6 = 0 → vf_n64 (FP.ddiv (FP.i2d (R 7)) (FP.i2d (R 6)))) : MM l g yX6_meanFlight kX6_meanFlight [.ref (A 21)] (mW h A I R N) (pD fun v_ h' => (R 6 = 0 ∧ h' = mW h A (uI I 5 1) R N) ∨ (¬ R 6 = 0 ∧ v_ = FP.ddiv (FP.i2d (R 7)) (FP.i2d (R 6)) ∧ h' = mW h A (uI I 5 0) R N)) (noX) (0) (0) := by
  refine MM.of (by decide) rfl rfl rfl (List.forall_mem_cons.mpr ⟨rfl, fun _ h => absurd h List.not_mem_nil⟩) (Nat.le_of_ble_eq_true rfl) ht fun X => ?_
  show Wk _ _ _ _ _ _ _ _ _ [some (.ref (A 21))] _ _
  refine Wk.gen fun PP hPP => ?_
  refine k_al0 dX6_meanFlight_0 ?_
  refine k_al0 dX6_meanFlight_1 ?_
  refine m_g0 hA fgX6_7_5 dX6_meanFlight_2 ?_
  refine k_bipush (v := 6) dX6_meanFlight_5 rfl ?_
  refine m_ldn hA dX6_meanFlight_7 (⟨rfl, by decide⟩ : ixI _ 6) (by decide) ?_
  refine k_if_ne (tgt := 15) dX6_meanFlight_8 (by decide) (fun c_8 => ?_) (fun c_8 => ?_)
  · refine k_iconst (v := 0) dX6_meanFlight_15 rfl ?_
    refine m_p5 hA fpX6_25_5 dX6_meanFlight_16 ?_
    refine k_al0 dX6_meanFlight_19 ?_
    refine m_g5 hA fgX6_25_5 dX6_meanFlight_20 ?_
    rw [uI_s]
    refine k_if_le (tgt := 30) dX6_meanFlight_23 (by decide) (fun c_23 => ?_) (fun c_23 => absurd ((by decide)) c_23)
    refine k_al0 dX6_meanFlight_30 ?_
    refine m_g0 hA fgX6_7_5 dX6_meanFlight_31 ?_
    refine k_bipush (v := 7) dX6_meanFlight_34 rfl ?_
    refine m_ldn hA dX6_meanFlight_36 (⟨rfl, by decide⟩ : ixI _ 7) (by decide) ?_
    refine k_i2d dX6_meanFlight_37 ?_
    refine k_al0 dX6_meanFlight_38 ?_
    refine m_g0 hA fgX6_7_5 dX6_meanFlight_39 ?_
    refine k_bipush (v := 6) dX6_meanFlight_42 rfl ?_
    refine m_ldn hA dX6_meanFlight_44 (⟨rfl, by decide⟩ : ixI _ 6) (by decide) ?_
    refine k_i2d dX6_meanFlight_45 ?_
    refine k_ddiv dX6_meanFlight_46 (hq c_8) ?_
    exact k_dret dX6_meanFlight_47 rfl (by rw [hPP]; exact ⟨_, rfl, Or.inr ⟨c_8, rfl, rfl⟩⟩)
  · refine k_iconst (v := 1) dX6_meanFlight_11 rfl ?_
    refine k_goto (tgt := 16) dX6_meanFlight_12 (by decide) ?_
    refine m_p5 hA fpX6_25_5 dX6_meanFlight_16 ?_
    refine k_al0 dX6_meanFlight_19 ?_
    refine m_g5 hA fgX6_25_5 dX6_meanFlight_20 ?_
    rw [uI_s]
    refine k_if_le (tgt := 30) dX6_meanFlight_23 (by decide) (fun c_23 => absurd c_23 ((by decide))) (fun c_23 => ?_)
    refine k_dconst0 dX6_meanFlight_26 ?_
    refine k_goto (tgt := 47) dX6_meanFlight_27 (by decide) ?_
    exact k_dret dX6_meanFlight_47 rfl (by rw [hPP]; exact ⟨_, rfl, Or.inl ⟨by simpa using c_8, rfl⟩⟩)
theorem mc_X6_burnt {l : Launch} (ht : l.stackTraces = false) {g : gT} {h : hp} {A : Nat → Nat} (hA : mOK A) {I R : Nat → Int32} {N : Nat → Nat → Int32} (h1 : R 1 = nI (nR R)) (h18 : nR R ≤ 8) (hq : ¬ R 1 = 0 → vf_n32 (FP.fdiv (FP.i2f (s_with R 3)) (FP.i2f (R 1)))) : MM l g yX6_burnt kX6_burnt [.ref (A 21)] (mW h A I R N) (pF fun v_ h' => (R 1 = 0 ∧ h' = mW h A (uI I 5 1) R N) ∨ (¬ R 1 = 0 ∧ v_ = FP.fdiv (FP.i2f (s_with R 3)) (FP.i2f (R 1)) ∧ h' = mW h A (uI I 5 0) R N)) (noX) (0) (0) := by
  refine MM.of (by decide) rfl rfl rfl (List.forall_mem_cons.mpr ⟨rfl, fun _ h => absurd h List.not_mem_nil⟩) (Nat.le_of_ble_eq_true rfl) ht fun X => ?_
  show Wk _ _ _ _ _ _ _ _ _ [some (.ref (A 21))] _ _
  refine Wk.gen fun PP hPP => ?_
  refine k_al0 dX6_burnt_0 ?_
  refine k_al0 dX6_burnt_1 ?_
  refine m_g0 hA fgX6_7_5 dX6_burnt_2 ?_
  refine k_iconst (v := 1) dX6_burnt_5 rfl ?_
  refine m_ldn hA dX6_burnt_6 (⟨rfl, by decide⟩ : ixI _ 1) (by decide) ?_
  refine k_if_ne (tgt := 14) dX6_burnt_7 (by decide) (fun c_7 => ?_) (fun c_7 => ?_)
  · refine k_iconst (v := 0) dX6_burnt_14 rfl ?_
    refine m_p5 hA fpX6_25_5 dX6_burnt_15 ?_
    refine k_al0 dX6_burnt_18 ?_
    refine m_g5 hA fgX6_25_5 dX6_burnt_19 ?_
    rw [uI_s]
    refine k_if_le (tgt := 29) dX6_burnt_22 (by decide) (fun c_22 => ?_) (fun c_22 => absurd ((by decide)) c_22)
    refine k_al0 dX6_burnt_29 ?_
    refine k_iconst (v := 3) dX6_burnt_30 rfl ?_
    refine k_cVI1 cvX6_124_5 dX6_burnt_31 (mc_X6_roofsWith ht hA h1 h18 (w := 3) rfl (by decide)) (mW_mo hA) (Nat.le_of_eq (Nat.zero_add _)) (Nat.le_of_eq (Nat.zero_add _)) (fun r_31 h_31 e_31 => ?_)
    obtain ⟨rfl, rfl⟩ := e_31
    refine k_i2f dX6_burnt_34 ?_
    refine k_al0 dX6_burnt_35 ?_
    refine m_g0 hA fgX6_7_5 dX6_burnt_36 ?_
    refine k_iconst (v := 1) dX6_burnt_39 rfl ?_
    refine m_ldn hA dX6_burnt_40 (⟨rfl, by decide⟩ : ixI _ 1) (by decide) ?_
    refine k_i2f dX6_burnt_41 ?_
    refine k_fdiv dX6_burnt_42 (hq c_7) ?_
    exact k_fret dX6_burnt_43 rfl (by rw [hPP]; exact ⟨_, rfl, Or.inr ⟨c_7, rfl, rfl⟩⟩)
  · refine k_iconst (v := 1) dX6_burnt_10 rfl ?_
    refine k_goto (tgt := 15) dX6_burnt_11 (by decide) ?_
    refine m_p5 hA fpX6_25_5 dX6_burnt_15 ?_
    refine k_al0 dX6_burnt_18 ?_
    refine m_g5 hA fgX6_25_5 dX6_burnt_19 ?_
    rw [uI_s]
    refine k_if_le (tgt := 29) dX6_burnt_22 (by decide) (fun c_22 => absurd c_22 ((by decide))) (fun c_22 => ?_)
    refine k_fconst0 dX6_burnt_25 ?_
    refine k_goto (tgt := 43) dX6_burnt_26 (by decide) ?_
    exact k_fret dX6_burnt_43 rfl (by rw [hPP]; exact ⟨_, rfl, Or.inl ⟨by simpa using c_7, rfl⟩⟩)
