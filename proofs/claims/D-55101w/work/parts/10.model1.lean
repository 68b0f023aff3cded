/-! THE MODEL: contracts of its methods, 1 (printed by tools/mk_model.py) -/
set_option maxRecDepth 100000
theorem fgX6_25_5 : FGs "TissueBalloonsModel" 25 5 5 := ⟨RX6, TX6, 21, RX6, rfl, by decide, in_X6, Or.inl q3098, Or.inl rfl⟩
theorem fpX6_25_5 {nm : String} : FPs "TissueBalloonsModel" nm 25 5 5 .int := ⟨RX6, TX6, 21, RX6, tyX6, rfl, by decide, in_X6, tyX6_ok, nmX6, Or.inl rfl, tyX6_ok 5 (by decide), Or.inl ⟨q3098, rfl⟩⟩
theorem fgX6_69_5 : FGs "TissueBalloonsModel" 69 5 19 := ⟨RX6, TX6, 21, RX6, rfl, by decide, in_X6, Or.inl q3112, Or.inl rfl⟩
theorem fpX6_32_5 {nm : String} : FPs "TissueBalloonsModel" nm 32 5 7 .int := ⟨RX6, TX6, 21, RX6, tyX6, rfl, by decide, in_X6, tyX6_ok, nmX6, Or.inl rfl, tyX6_ok 7 (by decide), Or.inl ⟨q3100, rfl⟩⟩
theorem fpX6_35_5 {nm : String} : FPs "TissueBalloonsModel" nm 35 5 8 .int := ⟨RX6, TX6, 21, RX6, tyX6, rfl, by decide, in_X6, tyX6_ok, nmX6, Or.inl rfl, tyX6_ok 8 (by decide), Or.inl ⟨q3101, rfl⟩⟩
theorem fgX6_32_5 : FGs "TissueBalloonsModel" 32 5 7 := ⟨RX6, TX6, 21, RX6, rfl, by decide, in_X6, Or.inl q3100, Or.inl rfl⟩
theorem fpX6_38_5 {nm : String} : FPs "TissueBalloonsModel" nm 38 5 9 .int := ⟨RX6, TX6, 21, RX6, tyX6, rfl, by decide, in_X6, tyX6_ok, nmX6, Or.inl rfl, tyX6_ok 9 (by decide), Or.inl ⟨q3102, rfl⟩⟩
theorem fgX6_35_5 : FGs "TissueBalloonsModel" 35 5 8 := ⟨RX6, TX6, 21, RX6, rfl, by decide, in_X6, Or.inl q3101, Or.inl rfl⟩
theorem fpX6_41_5 {nm : String} : FPs "TissueBalloonsModel" nm 41 5 10 .int := ⟨RX6, TX6, 21, RX6, tyX6, rfl, by decide, in_X6, tyX6_ok, nmX6, Or.inl rfl, tyX6_ok 10 (by decide), Or.inl ⟨q3103, rfl⟩⟩
theorem cvX6_75_5 : CVs "TissueBalloonsModel" 75 5 yX6_no kX6_no 1 := ⟨⟨TX6, 21, rfl⟩, q3178, q3180, qs32, q100, q3181, ⟨by decide, by decide⟩, rfl⟩
theorem fgX6_7_5 : FGs "TissueBalloonsModel" 7 5 0 := ⟨RX6, TX6, 21, RX6, rfl, by decide, in_X6, Or.inl q3093, Or.inl rfl⟩
theorem csX6_83 : CSs "TissueBalloonsModel" 83 yX6_in kX6_in 3 := ⟨q3175, q3176, q100, q3177, ⟨by decide, by decide⟩, rfl⟩
theorem fgX6_13_5 : FGs "TissueBalloonsModel" 13 5 1 := ⟨RX6, TX6, 21, RX6, rfl, by decide, in_X6, Or.inl q3094, Or.inl rfl⟩
theorem csX6_79 : CSs "TissueBalloonsModel" 79 yX6_copies kX6_copies 4 := ⟨q3169, q3170, q100, q3171, ⟨by decide, by decide⟩, rfl⟩
theorem fgX6_22_5 : FGs "TissueBalloonsModel" 22 5 4 := ⟨RX6, TX6, 21, RX6, rfl, by decide, in_X6, Or.inl q3097, Or.inl rfl⟩
theorem fgX6_29_5 : FGs "TissueBalloonsModel" 29 5 6 := ⟨RX6, TX6, 21, RX6, rfl, by decide, in_X6, Or.inl q3099, Or.inl rfl⟩
theorem fpX6_29_5 {nm : String} : FPs "TissueBalloonsModel" nm 29 5 6 .int := ⟨RX6, TX6, 21, RX6, tyX6, rfl, by decide, in_X6, tyX6_ok, nmX6, Or.inl rfl, tyX6_ok 6 (by decide), Or.inl ⟨q3099, rfl⟩⟩
theorem nw_b (b : Bool) : narrow .boolean (.int (bI b)) = .int (bI b) := by cases b <;> rfl
theorem bI_0 {b : Bool} : bI b = 0 ↔ b = false := by cases b <;> simp [bI]
theorem bI_n0 {b : Bool} : ¬ bI b = 0 ↔ b = true := by cases b <;> simp [bI]
theorem Wk.gen {l : Launch} {g : gT} {X : CX} {K : KX} {P : pT} {E : eT} {n k pc : Nat} {L : List (Option Value)} {st : List Value} {h : hp} (w : ∀ PP : pT, PP = P → Wk l g X K PP E n k pc L st h) : Wk l g X K P E n k pc L st h := w P rfl
theorem hu_id {h : hp} {a : Nat} {e : hE} (ha : h a = some e) : hu h a e = h := by
  funext q
  by_cases hq : q = a
  · subst hq; rw [hu_s, ha]
  · rw [hu_n hq]
theorem mc_X6_in {l : Launch} (ht : l.stackTraces = false) {g : gT} {h : hp} (a b c : Int32) : MM l g yX6_in kX6_in [.int a, .int b, .int c] (h) (pI fun v_ h' => v_ = bI (inB a b c) ∧ h' = h) (noX) (0) (0) := by
  refine MM.of (by decide) rfl rfl rfl (List.forall_mem_cons.mpr ⟨rfl, List.forall_mem_cons.mpr ⟨rfl, List.forall_mem_cons.mpr ⟨rfl, fun _ h => absurd h List.not_mem_nil⟩⟩⟩) (Nat.le_of_ble_eq_true rfl) ht fun X => ?_
  show Wk _ _ _ _ _ _ _ _ _ [some (.int a), some (.int b), some (.int c)] _ _
  refine k_il0 dX6_in_0 ?_
  refine k_il1 dX6_in_1 ?_
  refine k_icmp_lt (tgt := 14) dX6_in_2 (by decide) (fun c_2 => ?_) (fun c_2 => ?_)
  · refine k_iconst (v := 0) dX6_in_14 rfl ?_
    exact k_iret dX6_in_15 rfl rfl ⟨_, rfl, by unfold bI inB; grind, rfl⟩
  · refine k_il0 dX6_in_5 ?_
    refine k_il2 dX6_in_6 ?_
    refine k_icmp_gt (tgt := 14) dX6_in_7 (by decide) (fun c_7 => ?_) (fun c_7 => ?_)
    · refine k_iconst (v := 0) dX6_in_14 rfl ?_
      exact k_iret dX6_in_15 rfl rfl ⟨_, rfl, by unfold bI inB; grind, rfl⟩
    · refine k_iconst (v := 1) dX6_in_10 rfl ?_
      refine k_goto (tgt := 15) dX6_in_11 (by decide) ?_
      exact k_iret dX6_in_15 rfl rfl ⟨_, rfl, by unfold bI inB; grind, rfl⟩
theorem mc_X6_least {l : Launch} (ht : l.stackTraces = false) {g : gT} {h : hp} (a b : Int32) : MM l g yX6_least kX6_least [.int a, .int b] (h) (pI fun v_ h' => v_ = (if a < b then a else b) ∧ h' = h) (noX) (0) (0) := by
  refine MM.of (by decide) rfl rfl rfl (List.forall_mem_cons.mpr ⟨rfl, List.forall_mem_cons.mpr ⟨rfl, fun _ h => absurd h List.not_mem_nil⟩⟩) (Nat.le_of_ble_eq_true rfl) ht fun X => ?_
  show Wk _ _ _ _ _ _ _ _ _ [some (.int a), some (.int b)] _ _
  refine k_il0 dX6_least_0 ?_
  refine k_il1 dX6_least_1 ?_
  refine k_icmp_ge (tgt := 9) dX6_least_2 (by decide) (fun c_2 => ?_) (fun c_2 => ?_)
  · refine k_il1 dX6_least_9 ?_
    exact k_iret dX6_least_10 rfl rfl ⟨_, rfl, by grind, rfl⟩
  · refine k_il0 dX6_least_5 ?_
    refine k_goto (tgt := 10) dX6_least_6 (by decide) ?_
    exact k_iret dX6_least_10 rfl rfl ⟨_, rfl, by grind, rfl⟩
theorem mc_X6_most {l : Launch} (ht : l.stackTraces = false) {g : gT} {h : hp} (a b : Int32) : MM l g yX6_most kX6_most [.int a, .int b] (h) (pI fun v_ h' => v_ = (if b < a then a else b) ∧ h' = h) (noX) (0) (0) := by
  refine MM.of (by decide) rfl rfl rfl (List.forall_mem_cons.mpr ⟨rfl, List.forall_mem_cons.mpr ⟨rfl, fun _ h => absurd h List.not_mem_nil⟩⟩) (Nat.le_of_ble_eq_true rfl) ht fun X => ?_
  show Wk _ _ _ _ _ _ _ _ _ [some (.int a), some (.int b)] _ _
  refine k_il0 dX6_most_0 ?_
  refine k_il1 dX6_most_1 ?_
  refine k_icmp_le (tgt := 9) dX6_most_2 (by decide) (fun c_2 => ?_) (fun c_2 => ?_)
  · refine k_il1 dX6_most_9 ?_
    exact k_iret dX6_most_10 rfl rfl ⟨_, rfl, by grind, rfl⟩
  · refine k_il0 dX6_most_5 ?_
    refine k_goto (tgt := 10) dX6_most_6 (by decide) ?_
    exact k_iret dX6_most_10 rfl rfl ⟨_, rfl, by grind, rfl⟩
theorem mc_X6_thrown {l : Launch} (ht : l.stackTraces = false) {g : gT} {h : hp} {A : Nat → Nat} (hA : mOK A) {I R : Nat → Int32} {N : Nat → Nat → Int32}  : MM l g yX6_thrown kX6_thrown [.ref (A 21)] (mW h A I R N) (pI fun v_ h' => v_ = I 5 ∧ h' = mW h A (I) (R) (N)) (noX) (0) (0) := by
  refine MM.of (by decide) rfl rfl rfl (List.forall_mem_cons.mpr ⟨rfl, fun _ h => absurd h List.not_mem_nil⟩) (Nat.le_of_ble_eq_true rfl) ht fun X => ?_
  show Wk _ _ _ _ _ _ _ _ _ [some (.ref (A 21))] _ _
  refine k_al0 dX6_thrown_0 ?_
  refine m_g5 hA fgX6_25_5 dX6_thrown_1 ?_
  exact k_iret dX6_thrown_4 rfl rfl ⟨_, rfl, rfl, rfl⟩
theorem mc_X6_errorPosition {l : Launch} (ht : l.stackTraces = false) {g : gT} {h : hp} {A : Nat → Nat} (hA : mOK A) {I R : Nat → Int32} {N : Nat → Nat → Int32}  : MM l g yX6_errorPosition kX6_errorPosition [.ref (A 21)] (mW h A I R N) (pI fun v_ h' => v_ = I 19 ∧ h' = mW h A (uI I 5 0) (R) (N)) (noX) (0) (0) := by
  refine MM.of (by decide) rfl rfl rfl (List.forall_mem_cons.mpr ⟨rfl, fun _ h => absurd h List.not_mem_nil⟩) (Nat.le_of_ble_eq_true rfl) ht fun X => ?_
  show Wk _ _ _ _ _ _ _ _ _ [some (.ref (A 21))] _ _
  refine k_al0 dX6_errorPosition_0 ?_
  refine k_iconst (v := 0) dX6_errorPosition_1 rfl ?_
  refine m_p5 hA fpX6_25_5 dX6_errorPosition_2 ?_
  refine k_al0 dX6_errorPosition_5 ?_
  refine m_g19 hA fgX6_69_5 dX6_errorPosition_6 ?_
  exact k_iret dX6_errorPosition_9 rfl rfl ⟨_, rfl, rfl, rfl⟩
theorem mc_X6_no {l : Launch} (ht : l.stackTraces = false) {g : gT} {h : hp} {A : Nat → Nat} (hA : mOK A) {I R : Nat → Int32} {N : Nat → Nat → Int32} (w : Int32) : MM l g yX6_no kX6_no [.ref (A 21), .int w] (mW h A I R N) (pI fun v_ h' => v_ = 0 ∧ h' = mW h A (uI I 5 w) (R) (N)) (noX) (0) (0) := by
  refine MM.of (by decide) rfl rfl rfl (List.forall_mem_cons.mpr ⟨rfl, List.forall_mem_cons.mpr ⟨rfl, fun _ h => absurd h List.not_mem_nil⟩⟩) (Nat.le_of_ble_eq_true rfl) ht fun X => ?_
  show Wk _ _ _ _ _ _ _ _ _ [some (.ref (A 21)), some (.int w)] _ _
  refine k_al0 dX6_no_0 ?_
  refine k_il1 dX6_no_1 ?_
  refine m_p5 hA fpX6_25_5 dX6_no_2 ?_
  refine k_iconst (v := 0) dX6_no_5 rfl ?_
  exact k_iret dX6_no_6 rfl rfl ⟨_, rfl, rfl, rfl⟩
theorem mc_X6_isBad {l : Launch} (ht : l.stackTraces = false) {g : gT} {h : hp} {A : Nat → Nat} (hA : mOK A) {I R : Nat → Int32} {N : Nat → Nat → Int32} (w z : Int32) : MM l g yX6_isBad kX6_isBad [.ref (A 21), .int w, .int z] (mW h A I R N) (pI fun v_ h' => v_ = 1 ∧ h' = mW h A (uI (uI I 7 w) 8 z) (R) (N)) (noX) (0) (0) := by
  refine MM.of (by decide) rfl rfl rfl (List.forall_mem_cons.mpr ⟨rfl, List.forall_mem_cons.mpr ⟨rfl, List.forall_mem_cons.mpr ⟨rfl, fun _ h => absurd h List.not_mem_nil⟩⟩⟩) (Nat.le_of_ble_eq_true rfl) ht fun X => ?_
  show Wk _ _ _ _ _ _ _ _ _ [some (.ref (A 21)), some (.int w), some (.int z)] _ _
  refine k_al0 dX6_isBad_0 ?_
  refine k_il1 dX6_isBad_1 ?_
  refine m_p7 hA fpX6_32_5 dX6_isBad_2 ?_
  refine k_al0 dX6_isBad_5 ?_
  refine k_il2 dX6_isBad_6 ?_
  refine m_p8 hA fpX6_35_5 dX6_isBad_7 ?_
  refine k_iconst (v := 1) dX6_isBad_10 rfl ?_
  exact k_iret dX6_isBad_11 rfl rfl ⟨_, rfl, rfl, rfl⟩
theorem mc_X6_refused {l : Launch} (ht : l.stackTraces = false) {g : gT} {h : hp} {A : Nat → Nat} (hA : mOK A) {I R : Nat → Int32} {N : Nat → Nat → Int32} (w : Int32) : MM l g yX6_refused kX6_refused [.ref (A 21), .int w] (mW h A I R N) (pI fun v_ h' => v_ = 0 ∧ h' = mW h A (uI (uI (uI I 9 (I 7)) 10 (I 8)) 5 w) (R) (N)) (noX) (0) (0) := by
  refine MM.of (by decide) rfl rfl rfl (List.forall_mem_cons.mpr ⟨rfl, List.forall_mem_cons.mpr ⟨rfl, fun _ h => absurd h List.not_mem_nil⟩⟩) (Nat.le_of_ble_eq_true rfl) ht fun X => ?_
  show Wk _ _ _ _ _ _ _ _ _ [some (.ref (A 21)), some (.int w)] _ _
  refine k_al0 dX6_refused_0 ?_
  refine k_al0 dX6_refused_1 ?_
  refine m_g7 hA fgX6_32_5 dX6_refused_2 ?_
  refine m_p9 hA fpX6_38_5 dX6_refused_5 ?_
  refine k_al0 dX6_refused_8 ?_
  refine k_al0 dX6_refused_9 ?_
  refine m_g8 hA fgX6_35_5 dX6_refused_10 ?_
  refine m_p10 hA fpX6_41_5 dX6_refused_13 ?_
  refine k_al0 dX6_refused_16 ?_
  refine k_il1 dX6_refused_17 ?_
  refine k_cVI1 cvX6_75_5 dX6_refused_18 (mc_X6_no ht hA _) (mW_mo hA) (Nat.le_of_eq (Nat.zero_add _)) (Nat.le_of_eq (Nat.zero_add _)) (fun r_18 h_18 e_18 => ?_)
  obtain ⟨rfl, rfl⟩ := e_18
  exact k_iret dX6_refused_21 rfl rfl ⟨_, rfl, rfl, rfl⟩
theorem mc_X6_rv {l : Launch} (ht : l.stackTraces = false) {g : gT} {h : hp} {A : Nat → Nat} (hA : mOK A) {I R : Nat → Int32} {N : Nat → Nat → Int32} {r j : Nat} {a b : Int32} (hr : a = nI r) (hj : b = nI j) (hr2 : r < 8) (hj2 : j < 5) : MM l g yX6_rv kX6_rv [.ref (A 21), .int a, .int b] (mW h A I R N) (pI fun v_ h' => v_ = R (12 + 5 * r + j) ∧ h' = mW h A (I) (R) (N)) (noX) (0) (0) := by
  refine MM.of (by decide) rfl rfl rfl (List.forall_mem_cons.mpr ⟨rfl, List.forall_mem_cons.mpr ⟨rfl, List.forall_mem_cons.mpr ⟨rfl, fun _ h => absurd h List.not_mem_nil⟩⟩⟩) (Nat.le_of_ble_eq_true rfl) ht fun X => ?_
  show Wk _ _ _ _ _ _ _ _ _ [some (.ref (A 21)), some (.int a), some (.int b)] _ _
  refine k_al0 dX6_rv_0 ?_
  refine m_g0 hA fgX6_7_5 dX6_rv_1 ?_
  refine k_bipush (v := 12) dX6_rv_4 rfl ?_
  refine k_iconst (v := 5) dX6_rv_6 rfl ?_
  refine k_il1 dX6_rv_7 ?_
  refine k_imul dX6_rv_8 ?_
  refine k_iadd dX6_rv_9 ?_
  refine k_il2 dX6_rv_10 ?_
  refine k_iadd dX6_rv_11 ?_
  refine Wk.top (v' := .int (nI (12 + 5 * r + j))) (congrArg Value.int (by rw [hr, hj]; show nI 12 + nI 5 * nI r + nI j = _; rw [pk_mul, nI_add, nI_add])) ?_
  refine m_ldn hA dX6_rv_12 (ixI_n (by omega)) (show 12 + 5 * r + j < 222 by omega) ?_
  exact k_iret dX6_rv_13 rfl rfl ⟨_, rfl, rfl, rfl⟩
theorem mc_X6_bv {l : Launch} (ht : l.stackTraces = false) {g : gT} {h : hp} {A : Nat → Nat} (hA : mOK A) {I R : Nat → Int32} {N : Nat → Nat → Int32} {r j : Nat} {a b : Int32} (hr : a = nI r) (hj : b = nI j) (hr2 : r < 20) (hj2 : j < 7) : MM l g yX6_bv kX6_bv [.ref (A 21), .int a, .int b] (mW h A I R N) (pI fun v_ h' => v_ = R (52 + 7 * r + j) ∧ h' = mW h A (I) (R) (N)) (noX) (0) (0) := by
  refine MM.of (by decide) rfl rfl rfl (List.forall_mem_cons.mpr ⟨rfl, List.forall_mem_cons.mpr ⟨rfl, List.forall_mem_cons.mpr ⟨rfl, fun _ h => absurd h List.not_mem_nil⟩⟩⟩) (Nat.le_of_ble_eq_true rfl) ht fun X => ?_
  show Wk _ _ _ _ _ _ _ _ _ [some (.ref (A 21)), some (.int a), some (.int b)] _ _
  refine k_al0 dX6_bv_0 ?_
  refine m_g0 hA fgX6_7_5 dX6_bv_1 ?_
  refine k_bipush (v := 52) dX6_bv_4 rfl ?_
  refine k_bipush (v := 7) dX6_bv_6 rfl ?_
  refine k_il1 dX6_bv_8 ?_
  refine k_imul dX6_bv_9 ?_
  refine k_iadd dX6_bv_10 ?_
  refine k_il2 dX6_bv_11 ?_
  refine k_iadd dX6_bv_12 ?_
  refine Wk.top (v' := .int (nI (52 + 7 * r + j))) (congrArg Value.int (by rw [hr, hj]; show nI 52 + nI 7 * nI r + nI j = _; rw [pk_mul, nI_add, nI_add])) ?_
  refine m_ldn hA dX6_bv_13 (ixI_n (by omega)) (show 52 + 7 * r + j < 222 by omega) ?_
  exact k_iret dX6_bv_14 rfl rfl ⟨_, rfl, rfl, rfl⟩
theorem mc_X6_cv {l : Launch} (ht : l.stackTraces = false) {g : gT} {h : hp} {A : Nat → Nat} (hA : mOK A) {I R : Nat → Int32} {N : Nat → Nat → Int32} {r j : Nat} {a b : Int32} (hr : a = nI r) (hj : b = nI j) (hr2 : r < 4) (hj2 : j < 3) : MM l g yX6_cv kX6_cv [.ref (A 21), .int a, .int b] (mW h A I R N) (pI fun v_ h' => v_ = R (192 + 3 * r + j) ∧ h' = mW h A (I) (R) (N)) (noX) (0) (0) := by
  refine MM.of (by decide) rfl rfl rfl (List.forall_mem_cons.mpr ⟨rfl, List.forall_mem_cons.mpr ⟨rfl, List.forall_mem_cons.mpr ⟨rfl, fun _ h => absurd h List.not_mem_nil⟩⟩⟩) (Nat.le_of_ble_eq_true rfl) ht fun X => ?_
  show Wk _ _ _ _ _ _ _ _ _ [some (.ref (A 21)), some (.int a), some (.int b)] _ _
  refine k_al0 dX6_cv_0 ?_
  refine m_g0 hA fgX6_7_5 dX6_cv_1 ?_
  refine k_sipush (v := 192) dX6_cv_4 rfl ?_
  refine k_iconst (v := 3) dX6_cv_7 rfl ?_
  refine k_il1 dX6_cv_8 ?_
  refine k_imul dX6_cv_9 ?_
  refine k_iadd dX6_cv_10 ?_
  refine k_il2 dX6_cv_11 ?_
  refine k_iadd dX6_cv_12 ?_
  refine Wk.top (v' := .int (nI (192 + 3 * r + j))) (congrArg Value.int (by rw [hr, hj]; show nI 192 + nI 3 * nI r + nI j = _; rw [pk_mul, nI_add, nI_add])) ?_
  refine m_ldn hA dX6_cv_13 (ixI_n (by omega)) (show 192 + 3 * r + j < 222 by omega) ?_
  exact k_iret dX6_cv_14 rfl rfl ⟨_, rfl, rfl, rfl⟩
theorem mc_X6_pv {l : Launch} (ht : l.stackTraces = false) {g : gT} {h : hp} {A : Nat → Nat} (hA : mOK A) {I R : Nat → Int32} {N : Nat → Nat → Int32} {r j : Nat} {a b : Int32} (hr : a = nI r) (hj : b = nI j) (hr2 : r < 6) (hj2 : j < 3) : MM l g yX6_pv kX6_pv [.ref (A 21), .int a, .int b] (mW h A I R N) (pI fun v_ h' => v_ = R (204 + 3 * r + j) ∧ h' = mW h A (I) (R) (N)) (noX) (0) (0) := by
  refine MM.of (by decide) rfl rfl rfl (List.forall_mem_cons.mpr ⟨rfl, List.forall_mem_cons.mpr ⟨rfl, List.forall_mem_cons.mpr ⟨rfl, fun _ h => absurd h List.not_mem_nil⟩⟩⟩) (Nat.le_of_ble_eq_true rfl) ht fun X => ?_
  show Wk _ _ _ _ _ _ _ _ _ [some (.ref (A 21)), some (.int a), some (.int b)] _ _
  refine k_al0 dX6_pv_0 ?_
  refine m_g0 hA fgX6_7_5 dX6_pv_1 ?_
  refine k_sipush (v := 204) dX6_pv_4 rfl ?_
  refine k_iconst (v := 3) dX6_pv_7 rfl ?_
  refine k_il1 dX6_pv_8 ?_
  refine k_imul dX6_pv_9 ?_
  refine k_iadd dX6_pv_10 ?_
  refine k_il2 dX6_pv_11 ?_
  refine k_iadd dX6_pv_12 ?_
  refine Wk.top (v' := .int (nI (204 + 3 * r + j))) (congrArg Value.int (by rw [hr, hj]; show nI 204 + nI 3 * nI r + nI j = _; rw [pk_mul, nI_add, nI_add])) ?_
  refine m_ldn hA dX6_pv_13 (ixI_n (by omega)) (show 204 + 3 * r + j < 222 by omega) ?_
  exact k_iret dX6_pv_14 rfl rfl ⟨_, rfl, rfl, rfl⟩
theorem mc_X6_lr {l : Launch} (ht : l.stackTraces = false) {g : gT} {h : hp} {A : Nat → Nat} (hA : mOK A) {I R : Nat → Int32} {N : Nat → Nat → Int32} {r j : Nat} {a b : Int32} (hr : a = nI r) (hj : b = nI j) (hr2 : r < 8) (hj2 : j < 5) {v : Int32} : MM l g yX6_lr kX6_lr [.ref (A 21), .int a, .int b, .int v] (mW h A I R N) (pV fun h' => h' = mW h A (I) (upd R (12 + 5 * r + j) v) (N)) (noX) (0) (0) := by
  refine MM.of (by decide) rfl rfl rfl (List.forall_mem_cons.mpr ⟨rfl, List.forall_mem_cons.mpr ⟨rfl, List.forall_mem_cons.mpr ⟨rfl, List.forall_mem_cons.mpr ⟨rfl, fun _ h => absurd h List.not_mem_nil⟩⟩⟩⟩) (Nat.le_of_ble_eq_true rfl) ht fun X => ?_
  show Wk _ _ _ _ _ _ _ _ _ [some (.ref (A 21)), some (.int a), some (.int b), some (.int v)] _ _
  refine k_al0 dX6_lr_0 ?_
  refine m_g0 hA fgX6_7_5 dX6_lr_1 ?_
  refine k_bipush (v := 12) dX6_lr_4 rfl ?_
  refine k_iconst (v := 5) dX6_lr_6 rfl ?_
  refine k_il1 dX6_lr_7 ?_
  refine k_imul dX6_lr_8 ?_
  refine k_iadd dX6_lr_9 ?_
  refine k_il2 dX6_lr_10 ?_
  refine k_iadd dX6_lr_11 ?_
  refine Wk.top (v' := .int (nI (12 + 5 * r + j))) (congrArg Value.int (by rw [hr, hj]; show nI 12 + nI 5 * nI r + nI j = _; rw [pk_mul, nI_add, nI_add])) ?_
  refine k_il3 dX6_lr_12 ?_
  refine m_stn hA dX6_lr_13 (ixI_n (by omega)) (show 12 + 5 * r + j < 222 by omega) ?_
  exact k_vret dX6_lr_14 rfl ⟨rfl, rfl⟩
theorem mc_X6_lb {l : Launch} (ht : l.stackTraces = false) {g : gT} {h : hp} {A : Nat → Nat} (hA : mOK A) {I R : Nat → Int32} {N : Nat → Nat → Int32} {r j : Nat} {a b : Int32} (hr : a = nI r) (hj : b = nI j) (hr2 : r < 20) (hj2 : j < 7) {v : Int32} : MM l g yX6_lb kX6_lb [.ref (A 21), .int a, .int b, .int v] (mW h A I R N) (pV fun h' => h' = mW h A (I) (upd R (52 + 7 * r + j) v) (N)) (noX) (0) (0) := by
  refine MM.of (by decide) rfl rfl rfl (List.forall_mem_cons.mpr ⟨rfl, List.forall_mem_cons.mpr ⟨rfl, List.forall_mem_cons.mpr ⟨rfl, List.forall_mem_cons.mpr ⟨rfl, fun _ h => absurd h List.not_mem_nil⟩⟩⟩⟩) (Nat.le_of_ble_eq_true rfl) ht fun X => ?_
  show Wk _ _ _ _ _ _ _ _ _ [some (.ref (A 21)), some (.int a), some (.int b), some (.int v)] _ _
  refine k_al0 dX6_lb_0 ?_
  refine m_g0 hA fgX6_7_5 dX6_lb_1 ?_
  refine k_bipush (v := 52) dX6_lb_4 rfl ?_
  refine k_bipush (v := 7) dX6_lb_6 rfl ?_
  refine k_il1 dX6_lb_8 ?_
  refine k_imul dX6_lb_9 ?_
  refine k_iadd dX6_lb_10 ?_
  refine k_il2 dX6_lb_11 ?_
  refine k_iadd dX6_lb_12 ?_
  refine Wk.top (v' := .int (nI (52 + 7 * r + j))) (congrArg Value.int (by rw [hr, hj]; show nI 52 + nI 7 * nI r + nI j = _; rw [pk_mul, nI_add, nI_add])) ?_
  refine k_il3 dX6_lb_13 ?_
  refine m_stn hA dX6_lb_14 (ixI_n (by omega)) (show 52 + 7 * r + j < 222 by omega) ?_
  exact k_vret dX6_lb_15 rfl ⟨rfl, rfl⟩
theorem mc_X6_lc {l : Launch} (ht : l.stackTraces = false) {g : gT} {h : hp} {A : Nat → Nat} (hA : mOK A) {I R : Nat → Int32} {N : Nat → Nat → Int32} {r j : Nat} {a b : Int32} (hr : a = nI r) (hj : b = nI j) (hr2 : r < 4) (hj2 : j < 3) {v : Int32} : MM l g yX6_lc kX6_lc [.ref (A 21), .int a, .int b, .int v] (mW h A I R N) (pV fun h' => h' = mW h A (I) (upd R (192 + 3 * r + j) v) (N)) (noX) (0) (0) := by
  refine MM.of (by decide) rfl rfl rfl (List.forall_mem_cons.mpr ⟨rfl, List.forall_mem_cons.mpr ⟨rfl, List.forall_mem_cons.mpr ⟨rfl, List.forall_mem_cons.mpr ⟨rfl, fun _ h => absurd h List.not_mem_nil⟩⟩⟩⟩) (Nat.le_of_ble_eq_true rfl) ht fun X => ?_
  show Wk _ _ _ _ _ _ _ _ _ [some (.ref (A 21)), some (.int a), some (.int b), some (.int v)] _ _
  refine k_al0 dX6_lc_0 ?_
  refine m_g0 hA fgX6_7_5 dX6_lc_1 ?_
  refine k_sipush (v := 192) dX6_lc_4 rfl ?_
  refine k_iconst (v := 3) dX6_lc_7 rfl ?_
  refine k_il1 dX6_lc_8 ?_
  refine k_imul dX6_lc_9 ?_
  refine k_iadd dX6_lc_10 ?_
  refine k_il2 dX6_lc_11 ?_
  refine k_iadd dX6_lc_12 ?_
  refine Wk.top (v' := .int (nI (192 + 3 * r + j))) (congrArg Value.int (by rw [hr, hj]; show nI 192 + nI 3 * nI r + nI j = _; rw [pk_mul, nI_add, nI_add])) ?_
  refine k_il3 dX6_lc_13 ?_
  refine m_stn hA dX6_lc_14 (ixI_n (by omega)) (show 192 + 3 * r + j < 222 by omega) ?_
  exact k_vret dX6_lc_15 rfl ⟨rfl, rfl⟩
theorem mc_X6_lp {l : Launch} (ht : l.stackTraces = false) {g : gT} {h : hp} {A : Nat → Nat} (hA : mOK A) {I R : Nat → Int32} {N : Nat → Nat → Int32} {r j : Nat} {a b : Int32} (hr : a = nI r) (hj : b = nI j) (hr2 : r < 6) (hj2 : j < 3) {v : Int32} : MM l g yX6_lp kX6_lp [.ref (A 21), .int a, .int b, .int v] (mW h A I R N) (pV fun h' => h' = mW h A (I) (upd R (204 + 3 * r + j) v) (N)) (noX) (0) (0) := by
  refine MM.of (by decide) rfl rfl rfl (List.forall_mem_cons.mpr ⟨rfl, List.forall_mem_cons.mpr ⟨rfl, List.forall_mem_cons.mpr ⟨rfl, List.forall_mem_cons.mpr ⟨rfl, fun _ h => absurd h List.not_mem_nil⟩⟩⟩⟩) (Nat.le_of_ble_eq_true rfl) ht fun X => ?_
  show Wk _ _ _ _ _ _ _ _ _ [some (.ref (A 21)), some (.int a), some (.int b), some (.int v)] _ _
  refine k_al0 dX6_lp_0 ?_
  refine m_g0 hA fgX6_7_5 dX6_lp_1 ?_
  refine k_sipush (v := 204) dX6_lp_4 rfl ?_
  refine k_iconst (v := 3) dX6_lp_7 rfl ?_
  refine k_il1 dX6_lp_8 ?_
  refine k_imul dX6_lp_9 ?_
  refine k_iadd dX6_lp_10 ?_
  refine k_il2 dX6_lp_11 ?_
  refine k_iadd dX6_lp_12 ?_
  refine Wk.top (v' := .int (nI (204 + 3 * r + j))) (congrArg Value.int (by rw [hr, hj]; show nI 204 + nI 3 * nI r + nI j = _; rw [pk_mul, nI_add, nI_add])) ?_
  refine k_il3 dX6_lp_13 ?_
  refine m_stn hA dX6_lp_14 (ixI_n (by omega)) (show 204 + 3 * r + j < 222 by omega) ?_
  exact k_vret dX6_lp_15 rfl ⟨rfl, rfl⟩
theorem cpy_succ {f f' : Nat → Int32} {s t i : Nat} : upd (va_cpy f f' s t i) (t + i) (f (s + i)) = va_cpy f f' s t (i + 1) := by
  funext j
  simp only [upd, va_cpy]
  by_cases h1 : j = t + i
  · subst h1
    rw [if_pos rfl, if_pos (by omega)]
    congr 1; omega
  · rw [if_neg h1]
    by_cases h2 : t ≤ j ∧ j < t + i
    · rw [if_pos h2, if_pos (by omega)]
    · rw [if_neg h2, if_neg (by omega)]
theorem cpy_0 {f f' : Nat → Int32} {s t : Nat} : va_cpy f f' s t 0 = f' := by
  funext j
  simp only [va_cpy]
  rw [if_neg (by omega)]
theorem mc_X6_copies {l : Launch} (ht : l.stackTraces = false) {g : gT} {h : hp} {a b s t m m' : Nat} {f f' : Nat → Int32} (ha : h a = some (aI 0 m f)) (hb : h b = some (aI 0 m' f')) (hs : s + 222 ≤ m) (htt : t + 222 ≤ m') (hm : m < 2000) (hm' : m' < 2000) (hdj : a ≠ b ∨ s + 222 ≤ t ∨ t + 222 ≤ s) : MM l g yX6_copies kX6_copies [.ref a, .int (nI s), .ref b, .int (nI t)] (h) (pV fun h' => h' = hu h b (aI 0 m' (va_cpy f f' s t 222))) (noX) (0) (0) := by
  refine MM.of (by decide) rfl rfl rfl (List.forall_mem_cons.mpr ⟨rfl, List.forall_mem_cons.mpr ⟨rfl, List.forall_mem_cons.mpr ⟨rfl, List.forall_mem_cons.mpr ⟨rfl, fun _ h => absurd h List.not_mem_nil⟩⟩⟩⟩) (Nat.le_of_ble_eq_true rfl) ht fun X => ?_
  show Wk _ _ _ _ _ _ _ _ _ [some (.ref a), some (.int (nI s)), some (.ref b), some (.int (nI t)), none] _ _
  refine Wk.gen fun PP hPP => ?_
  have hrd : ∀ i, i < 222 → ∃ c, hu h b (aI 0 m' (va_cpy f f' s t i)) a = some (aI 0 m c) ∧ c (s + i) = f (s + i) := by
    intro i hi
    by_cases hab : a = b
    · subst hab
      rw [ha] at hb
      cases hb
      refine ⟨_, hu_s, ?_⟩
      simp only [va_cpy]
      rw [if_neg (by rcases hdj with e | e | e; exact absurd rfl e; omega; omega)]
    · exact ⟨f, by rw [hu_n hab]; exact ha, rfl⟩
  have loop : ∀ d i, i + d = 222 → Wk l g X kX6_copies PP noX 0 0 3 [some (.ref a), some (.int (nI s)), some (.ref b), some (.int (nI t)), some (.int (nI i))] [] (hu h b (aI 0 m' (va_cpy f f' s t i))) := by
    intro d
    induction d with
    | zero =>
      intro i hi
      have hi : i = 222 := by omega
      subst hi
      refine k_il4 dX6_copies_3 ?_
      refine k_sipush (v := 222) dX6_copies_5 rfl ?_
      refine k_icmp_ge (tgt := 29) dX6_copies_8 (by decide) (fun c_8 => ?_) (fun c_8 => absurd (Int32.le_refl _) c_8)
      exact k_vret dX6_copies_29 rfl (by rw [hPP]; exact ⟨rfl, rfl⟩)
    | succ d ih =>
      intro i hid
      have hi : i < 222 := by omega
      refine k_il4 dX6_copies_3 ?_
      refine k_sipush (v := 222) dX6_copies_5 rfl ?_
      refine k_icmp_ge (tgt := 29) dX6_copies_8 (by decide) (fun c_8 => absurd c_8 (nI_ge hi (by decide))) (fun c_8 => ?_)
      refine k_al2 dX6_copies_11 ?_
      refine k_il3 dX6_copies_12 ?_
      refine k_il4 dX6_copies_13 ?_
      refine k_iadd dX6_copies_15 ?_
      refine Wk.top (v' := .int (nI (t + i))) (congrArg Value.int (nI_add _ _)) ?_
      refine k_al0 dX6_copies_16 ?_
      refine k_il1 dX6_copies_17 ?_
      refine k_il4 dX6_copies_18 ?_
      refine k_iadd dX6_copies_20 ?_
      refine Wk.top (v' := .int (nI (s + i))) (congrArg Value.int (nI_add _ _)) ?_
      obtain ⟨c, hc1, hc2⟩ := hrd i hi
      refine k_iald dX6_copies_21 hc1 (ixI_n (by omega)) (by omega) ?_
      rw [hc2]
      refine k_iast dX6_copies_22 hu_s (ixI_n (by omega)) (by omega) ?_
      rw [hu_u, cpy_succ]
      refine k_ic4 (v := nI (i + 1)) dX6_copies_23 (nI_1 i) (Nat.le_of_ble_eq_true rfl) ?_
      refine k_goto (tgt := 3) dX6_copies_26 (by decide) ?_
      exact ih (i + 1) (by omega)
  refine k_iconst (v := 0) dX6_copies_0 rfl ?_
  refine k_is4 dX6_copies_1 (Nat.le_of_ble_eq_true rfl) ?_
  have := loop 222 0 (by omega)
  rw [cpy_0, hu_id hb] at this
  exact this
theorem mc_X6_isPlace {l : Launch} (ht : l.stackTraces = false) {g : gT} {h : hp} (a : Int32) : MM l g yX6_isPlace kX6_isPlace [.int a] (h) (pI fun v_ h' => v_ = bI (inB a 0 60) ∧ h' = h) (noX) (0) (0) := by
  refine MM.of (by decide) rfl rfl rfl (List.forall_mem_cons.mpr ⟨rfl, fun _ h => absurd h List.not_mem_nil⟩) (Nat.le_of_ble_eq_true rfl) ht fun X => ?_
  show Wk _ _ _ _ _ _ _ _ _ [some (.int a)] _ _
  refine k_il0 dX6_isPlace_0 ?_
  refine k_iconst (v := 0) dX6_isPlace_1 rfl ?_
  refine k_bipush (v := 60) dX6_isPlace_2 rfl ?_
  refine k_cSI3 csX6_83 dX6_isPlace_4 (mc_X6_in ht _ _ _) (Nat.le_of_eq (Nat.zero_add _)) (Nat.le_of_eq (Nat.zero_add _)) (fun r_4 h_4 e_4 => ?_)
  obtain ⟨rfl, rfl⟩ := e_4
  exact k_iret dX6_isPlace_7 rfl (nw_b _) ⟨_, rfl, rfl, rfl⟩
theorem mc_X6_isLayer {l : Launch} (ht : l.stackTraces = false) {g : gT} {h : hp} (a : Int32) : MM l g yX6_isLayer kX6_isLayer [.int a] (h) (pI fun v_ h' => v_ = bI (inB a 0 3) ∧ h' = h) (noX) (0) (0) := by
  refine MM.of (by decide) rfl rfl rfl (List.forall_mem_cons.mpr ⟨rfl, fun _ h => absurd h List.not_mem_nil⟩) (Nat.le_of_ble_eq_true rfl) ht fun X => ?_
  show Wk _ _ _ _ _ _ _ _ _ [some (.int a)] _ _
  refine k_il0 dX6_isLayer_0 ?_
  refine k_iconst (v := 0) dX6_isLayer_1 rfl ?_
  refine k_iconst (v := 3) dX6_isLayer_2 rfl ?_
  refine k_cSI3 csX6_83 dX6_isLayer_3 (mc_X6_in ht _ _ _) (Nat.le_of_eq (Nat.zero_add _)) (Nat.le_of_eq (Nat.zero_add _)) (fun r_3 h_3 e_3 => ?_)
  obtain ⟨rfl, rfl⟩ := e_3
  exact k_iret dX6_isLayer_6 rfl (nw_b _) ⟨_, rfl, rfl, rfl⟩
theorem mc_X6_isDrift {l : Launch} (ht : l.stackTraces = false) {g : gT} {h : hp} (a : Int32) : MM l g yX6_isDrift kX6_isDrift [.int a] (h) (pI fun v_ h' => v_ = bI (inB a (-3) 3) ∧ h' = h) (noX) (0) (0) := by
  refine MM.of (by decide) rfl rfl rfl (List.forall_mem_cons.mpr ⟨rfl, fun _ h => absurd h List.not_mem_nil⟩) (Nat.le_of_ble_eq_true rfl) ht fun X => ?_
  show Wk _ _ _ _ _ _ _ _ _ [some (.int a)] _ _
  refine k_il0 dX6_isDrift_0 ?_
  refine k_bipush (v := (-3)) dX6_isDrift_1 rfl ?_
  refine k_iconst (v := 3) dX6_isDrift_3 rfl ?_
  refine k_cSI3 csX6_83 dX6_isDrift_4 (mc_X6_in ht _ _ _) (Nat.le_of_eq (Nat.zero_add _)) (Nat.le_of_eq (Nat.zero_add _)) (fun r_4 h_4 e_4 => ?_)
  obtain ⟨rfl, rfl⟩ := e_4
  exact k_iret dX6_isDrift_7 rfl (nw_b _) ⟨_, rfl, rfl, rfl⟩
theorem mc_X6_areMinutes {l : Launch} (ht : l.stackTraces = false) {g : gT} {h : hp} (a : Int32) : MM l g yX6_areMinutes kX6_areMinutes [.int a] (h) (pI fun v_ h' => v_ = bI (inB a 1 60) ∧ h' = h) (noX) (0) (0) := by
  refine MM.of (by decide) rfl rfl rfl (List.forall_mem_cons.mpr ⟨rfl, fun _ h => absurd h List.not_mem_nil⟩) (Nat.le_of_ble_eq_true rfl) ht fun X => ?_
  show Wk _ _ _ _ _ _ _ _ _ [some (.int a)] _ _
  refine k_il0 dX6_areMinutes_0 ?_
  refine k_iconst (v := 1) dX6_areMinutes_1 rfl ?_
  refine k_bipush (v := 60) dX6_areMinutes_2 rfl ?_
  refine k_cSI3 csX6_83 dX6_areMinutes_4 (mc_X6_in ht _ _ _) (Nat.le_of_eq (Nat.zero_add _)) (Nat.le_of_eq (Nat.zero_add _)) (fun r_4 h_4 e_4 => ?_)
  obtain ⟨rfl, rfl⟩ := e_4
  exact k_iret dX6_areMinutes_7 rfl (nw_b _) ⟨_, rfl, rfl, rfl⟩
theorem mc_X6_isBalloon {l : Launch} (ht : l.stackTraces = false) {g : gT} {h : hp} {A : Nat → Nat} (hA : mOK A) {I R : Nat → Int32} {N : Nat → Nat → Int32} (a : Int32) : MM l g yX6_isBalloon kX6_isBalloon [.ref (A 21), .int a] (mW h A I R N) (pI fun v_ h' => v_ = bI (inB a 0 (R 2 - 1)) ∧ h' = mW h A (I) (R) (N)) (noX) (0) (0) := by
  refine MM.of (by decide) rfl rfl rfl (List.forall_mem_cons.mpr ⟨rfl, List.forall_mem_cons.mpr ⟨rfl, fun _ h => absurd h List.not_mem_nil⟩⟩) (Nat.le_of_ble_eq_true rfl) ht fun X => ?_
  show Wk _ _ _ _ _ _ _ _ _ [some (.ref (A 21)), some (.int a)] _ _
  refine k_il1 dX6_isBalloon_0 ?_
  refine k_iconst (v := 0) dX6_isBalloon_1 rfl ?_
  refine k_al0 dX6_isBalloon_2 ?_
  refine m_g0 hA fgX6_7_5 dX6_isBalloon_3 ?_
  refine k_iconst (v := 2) dX6_isBalloon_6 rfl ?_
  refine m_ldn hA dX6_isBalloon_7 (⟨rfl, by decide⟩ : ixI _ 2) (by decide) ?_
  refine k_iconst (v := 1) dX6_isBalloon_8 rfl ?_
  refine k_isub dX6_isBalloon_9 ?_
  refine k_cSI3 csX6_83 dX6_isBalloon_10 (mc_X6_in ht _ _ _) (Nat.le_of_eq (Nat.zero_add _)) (Nat.le_of_eq (Nat.zero_add _)) (fun r_10 h_10 e_10 => ?_)
  obtain ⟨rfl, rfl⟩ := e_10
  exact k_iret dX6_isBalloon_13 rfl (nw_b _) ⟨_, rfl, rfl, rfl⟩
theorem mc_X6_isCrew {l : Launch} (ht : l.stackTraces = false) {g : gT} {h : hp} {A : Nat → Nat} (hA : mOK A) {I R : Nat → Int32} {N : Nat → Nat → Int32} (a : Int32) : MM l g yX6_isCrew kX6_isCrew [.ref (A 21), .int a] (mW h A I R N) (pI fun v_ h' => v_ = bI (inB a 0 (R 3 - 1)) ∧ h' = mW h A (I) (R) (N)) (noX) (0) (0) := by
  refine MM.of (by decide) rfl rfl rfl (List.forall_mem_cons.mpr ⟨rfl, List.forall_mem_cons.mpr ⟨rfl, fun _ h => absurd h List.not_mem_nil⟩⟩) (Nat.le_of_ble_eq_true rfl) ht fun X => ?_
  show Wk _ _ _ _ _ _ _ _ _ [some (.ref (A 21)), some (.int a)] _ _
  refine k_il1 dX6_isCrew_0 ?_
  refine k_iconst (v := 0) dX6_isCrew_1 rfl ?_
  refine k_al0 dX6_isCrew_2 ?_
  refine m_g0 hA fgX6_7_5 dX6_isCrew_3 ?_
  refine k_iconst (v := 3) dX6_isCrew_6 rfl ?_
  refine m_ldn hA dX6_isCrew_7 (⟨rfl, by decide⟩ : ixI _ 3) (by decide) ?_
  refine k_iconst (v := 1) dX6_isCrew_8 rfl ?_
  refine k_isub dX6_isCrew_9 ?_
  refine k_cSI3 csX6_83 dX6_isCrew_10 (mc_X6_in ht _ _ _) (Nat.le_of_eq (Nat.zero_add _)) (Nat.le_of_eq (Nat.zero_add _)) (fun r_10 h_10 e_10 => ?_)
  obtain ⟨rfl, rfl⟩ := e_10
  exact k_iret dX6_isCrew_13 rfl (nw_b _) ⟨_, rfl, rfl, rfl⟩
/-- 'before' is the row -/
def mBf (R : Nat → Int32) (N : Nat → Nat → Int32) : Nat → Nat → Int32 := uA N 1 (va_cpy R (N 1) 0 0 222)
theorem mBf_1 {R : Nat → Int32} {N : Nat → Nat → Int32} {j : Nat} (hj : j < 222) : mBf R N 1 j = R j := by
  simp only [mBf, uA_at, va_cpy]
  rw [if_pos (by omega)]
  congr 1; omega
theorem mBf_n {R : Nat → Int32} {N : Nat → Nat → Int32} {k : Nat} (hk : k ≠ 1) : mBf R N k = N k := uA_ne hk
theorem mOK.ne {A : Nat → Nat} (hA : mOK A) {i j : Nat} (hi : i ∈ mAd) (hj : j ∈ mAd) (h : i ≠ j) : A i ≠ A j := fun e => h (hA i hi j hj e)
theorem mc_X6_begins {l : Launch} (ht : l.stackTraces = false) {g : gT} {h : hp} {A : Nat → Nat} (hA : mOK A) {I R : Nat → Int32} {N : Nat → Nat → Int32}  : MM l g yX6_begins kX6_begins [.ref (A 21)] (mW h A I R N) (pV fun h' => h' = mW h A (uI I 5 0) (R) (mBf R N)) (noX) (0) (0) := by
  refine MM.of (by decide) rfl rfl rfl (List.forall_mem_cons.mpr ⟨rfl, fun _ h => absurd h List.not_mem_nil⟩) (Nat.le_of_ble_eq_true rfl) ht fun X => ?_
  show Wk _ _ _ _ _ _ _ _ _ [some (.ref (A 21))] _ _
  refine k_al0 dX6_begins_0 ?_
  refine k_iconst (v := 0) dX6_begins_1 rfl ?_
  refine m_p5 hA fpX6_25_5 dX6_begins_2 ?_
  refine k_al0 dX6_begins_5 ?_
  refine m_g0 hA fgX6_7_5 dX6_begins_6 ?_
  refine k_iconst (v := 0) dX6_begins_9 rfl ?_
  refine k_al0 dX6_begins_10 ?_
  refine m_g1 hA fgX6_13_5 dX6_begins_11 ?_
  refine k_iconst (v := 0) dX6_begins_14 rfl ?_
  refine k_cSV4 csX6_79 dX6_begins_15 (mc_X6_copies ht (s := 0) (t := 0) (mW_no hA) (mW_ot hA (k := 1) (by decide) (by decide) (by decide)) (by decide) (by decide) (by decide) (by decide) (Or.inl (hA.ne (by decide) (by decide) (by decide)))) (Nat.le_of_eq (Nat.zero_add _)) (Nat.le_of_eq (Nat.zero_add _)) (fun h_15 e_15 => ?_)
  subst e_15
  rw [show (222 : Nat) = szM 1 from rfl, mW_pa hA (by decide) (by decide) (by decide)]
  exact k_vret dX6_begins_18 rfl ⟨rfl, rfl⟩
def mKp (I : Nat → Int32) (N : Nat → Nat → Int32) (B : Nat → Int32) (I' : Nat → Int32) (N' : Nat → Nat → Int32) : Prop := ∃ (c c' : Nat) (F : Nat → Int32), I 6 = nI c ∧ I' = uI I 6 (nI (c' + 1)) ∧ N' = uA N 4 F ∧
  ((c < 8 ∧ c' = c ∧ ∀ i, i < c → ∀ j, j < 222 → F (222 * i + j) = N 4 (222 * i + j)) ∨ (c = 8 ∧ c' = 7 ∧ ∀ i, i < 7 → ∀ j, j < 222 → F (222 * i + j) = N 4 (222 * (i + 1) + j))) ∧ ∀ j, j < 222 → F (222 * c' + j) = B j
theorem mc_X6_keeps {l : Launch} (ht : l.stackTraces = false) {g : gT} {h : hp} {A : Nat → Nat} (hA : mOK A) {I R : Nat → Int32} {N : Nat → Nat → Int32} (w : Int32) {c : Nat} (hc : I 6 = nI c) (hc8 : c ≤ 8) : MM l g yX6_keeps kX6_keeps [.ref (A 21), .int w] (mW h A I R N) (pI fun v_ h' => v_ = w ∧ ∃ I' N', mKp I N (N 1) I' N' ∧ h' = mW h A I' R N') (noX) (0) (0) := by
  refine MM.of (by decide) rfl rfl rfl (List.forall_mem_cons.mpr ⟨rfl, List.forall_mem_cons.mpr ⟨rfl, fun _ h => absurd h List.not_mem_nil⟩⟩) (Nat.le_of_ble_eq_true rfl) ht fun X => ?_
  show Wk _ _ _ _ _ _ _ _ _ [some (.ref (A 21)), some (.int w), none] _ _
  refine Wk.gen fun PP hPP => ?_
  have tail : ∀ (I2 : Nat → Int32) (c2 : Nat) (F : Nat → Int32), I2 6 = nI c2 → c2 < 8 → (∀ I3 N3, I3 = uI I2 6 (nI (c2 + 1)) → (∃ F2, N3 = uA N 4 F2 ∧ (∀ j, j < 222 → F2 (222 * c2 + j) = N 1 j) ∧ ∀ i, i < c2 → ∀ j, j < 222 → F2 (222 * i + j) = F (222 * i + j)) → PP (some (.int w)) (mW h A I3 R N3)) → ∀ u2, Wk l g X kX6_keeps PP noX 0 0 56 [some (.ref (A 21)), some (.int w), u2] [] (mW h A I2 R (uA N 4 F)) := by
    intro I2 c2 F hc2 hc8 hfin u2
    refine k_al0 dX6_keeps_56 ?_
    refine m_g1 hA fgX6_13_5 dX6_keeps_57 ?_
    refine k_iconst (v := 0) dX6_keeps_60 rfl ?_
    refine k_al0 dX6_keeps_61 ?_
    refine m_g4 hA fgX6_22_5 dX6_keeps_62 ?_
    refine k_sipush (v := 222) dX6_keeps_65 rfl ?_
    refine k_al0 dX6_keeps_68 ?_
    refine m_g6 hA fgX6_29_5 dX6_keeps_69 ?_
    rw [hc2]
    refine k_imul dX6_keeps_72 ?_
    refine Wk.top (v' := .int (nI (222 * c2))) (congrArg Value.int (pk_mul 222 c2)) ?_
    refine k_cSV4 csX6_79 dX6_keeps_73 (mc_X6_copies ht (s := 0) (t := 222 * c2) (mW_ot hA (k := 1) (by decide) (by decide) (by decide)) (mW_ot hA (k := 4) (by decide) (by decide) (by decide)) (by decide) (show 222 * c2 + 222 ≤ 1776 by omega) (by decide) (by decide) (Or.inl (hA.ne (by decide) (by decide) (by decide)))) (Nat.le_of_eq (Nat.zero_add _)) (Nat.le_of_eq (Nat.zero_add _)) (fun h_73 e_73 => ?_)
    subst e_73
    rw [mW_pa hA (by decide) (by decide) (by decide), uA_uA]
    rw [uA_ne (show (1 : Nat) ≠ 4 by decide), uA_at]
    refine k_al0 dX6_keeps_76 ?_
    refine k_dup dX6_keeps_77 ?_
    refine m_g6 hA fgX6_29_5 dX6_keeps_78 ?_
    rw [hc2]
    refine k_iconst (v := 1) dX6_keeps_81 rfl ?_
    refine k_iadd dX6_keeps_82 ?_
    refine Wk.top (v' := .int (nI (c2 + 1))) (congrArg Value.int (nI_1 c2)) ?_
    refine m_p6 hA fpX6_29_5 dX6_keeps_83 ?_
    refine k_il1 dX6_keeps_86 ?_
    exact k_iret dX6_keeps_87 rfl rfl (hfin _ _ rfl ⟨_, rfl, fun j hj => by simp only [va_cpy]; rw [if_pos (by omega)]; congr 1; omega, fun i hi j hj => by simp only [va_cpy]; rw [if_neg (by omega)]⟩)
  have loop : ∀ d i (F : Nat → Int32), i + d = 8 → 1 ≤ i → (∀ q, q + 1 < i → ∀ j, j < 222 → F (222 * q + j) = N 4 (222 * (q + 1) + j)) → (∀ q, i ≤ q → ∀ j, j < 222 → F (222 * q + j) = N 4 (222 * q + j)) → c = 8 → Wk l g X kX6_keeps PP noX 0 0 11 [some (.ref (A 21)), some (.int w), some (.int (nI i))] [] (mW h A I R (uA N 4 F)) := by
    intro d
    induction d with
    | zero =>
      intro i F hid hi1 hF1 hF2 hc9
      have hi : i = 8 := by omega
      subst hi
      refine k_il2 dX6_keeps_11 ?_
      refine k_bipush (v := 8) dX6_keeps_12 rfl ?_
      refine k_icmp_ge (tgt := 46) dX6_keeps_14 (by decide) (fun c_14 => ?_) (fun c_14 => absurd (Int32.le_refl _) c_14)
      refine k_al0 dX6_keeps_46 ?_
      refine k_dup dX6_keeps_47 ?_
      refine m_g6 hA fgX6_29_5 dX6_keeps_48 ?_
      rw [hc, hc9]
      refine k_iconst (v := 1) dX6_keeps_51 rfl ?_
      refine k_isub dX6_keeps_52 ?_
      refine Wk.top (v' := .int (nI 7)) (congrArg Value.int (by decide)) ?_
      refine m_p6 hA fpX6_29_5 dX6_keeps_53 ?_
      refine tail (uI I 6 (nI 7)) 7 F (by simp [uI]) (by decide) (fun I3 N3 e3 ⟨F2, e4, e5, e6⟩ => ?_) _
      rw [hPP]
      refine ⟨w, rfl, rfl, I3, N3, ⟨c, 7, F2, hc, by rw [e3, uI_uI], e4, Or.inr ⟨hc9, rfl, fun q hq j hj => ?_⟩, e5⟩, rfl⟩
      rw [e6 q hq j hj, hF1 q (by omega) j hj]
    | succ d ih =>
      intro i F hid hi1 hF1 hF2 hc9
      have hi : i < 8 := by omega
      obtain ⟨i0, rfl⟩ : ∃ i0, i = i0 + 1 := ⟨i - 1, by omega⟩
      refine k_il2 dX6_keeps_11 ?_
      refine k_bipush (v := 8) dX6_keeps_12 rfl ?_
      refine k_icmp_ge (tgt := 46) dX6_keeps_14 (by decide) (fun c_14 => absurd c_14 (nI_ge hi (by decide))) (fun c_14 => ?_)
      refine k_al0 dX6_keeps_17 ?_
      refine m_g4 hA fgX6_22_5 dX6_keeps_18 ?_
      refine k_sipush (v := 222) dX6_keeps_21 rfl ?_
      refine k_il2 dX6_keeps_24 ?_
      refine k_imul dX6_keeps_25 ?_
      refine Wk.top (v' := .int (nI (222 * (i0 + 1)))) (congrArg Value.int (pk_mul 222 _)) ?_
      refine k_al0 dX6_keeps_26 ?_
      refine m_g4 hA fgX6_22_5 dX6_keeps_27 ?_
      refine k_sipush (v := 222) dX6_keeps_30 rfl ?_
      refine k_il2 dX6_keeps_33 ?_
      refine k_iconst (v := 1) dX6_keeps_34 rfl ?_
      refine k_isub dX6_keeps_35 ?_
      refine Wk.top (v' := .int (nI i0)) (congrArg Value.int (nI_pred i0)) ?_
      refine k_imul dX6_keeps_36 ?_
      refine Wk.top (v' := .int (nI (222 * i0))) (congrArg Value.int (pk_mul 222 _)) ?_
      refine k_cSV4 csX6_79 dX6_keeps_37 (mc_X6_copies ht (s := 222 * (i0 + 1)) (t := 222 * i0) (mW_ot hA (k := 4) (by decide) (by decide) (by decide)) (mW_ot hA (k := 4) (by decide) (by decide) (by decide)) (show 222 * (i0 + 1) + 222 ≤ 1776 by omega) (show 222 * i0 + 222 ≤ 1776 by omega) (by decide) (by decide) (Or.inr (by omega))) (Nat.le_of_eq (Nat.zero_add _)) (Nat.le_of_eq (Nat.zero_add _)) (fun h_37 e_37 => ?_)
      subst e_37
      rw [mW_pa hA (by decide) (by decide) (by decide), uA_uA, uA_at]
      refine k_ic2 (v := nI (i0 + 1 + 1)) dX6_keeps_40 (nI_1 _) (Nat.le_of_ble_eq_true rfl) ?_
      refine k_goto (tgt := 11) dX6_keeps_43 (by decide) ?_
      refine ih (i0 + 1 + 1) _ (by omega) (by omega) (fun q hq j hj => ?_) (fun q hq j hj => ?_) hc9
      · simp only [va_cpy]
        by_cases e : q = i0
        · subst e
          rw [if_pos (by omega), hF2 (q + 1) (by omega) (222 * q + j - 222 * q) (by omega)]
          congr 1; omega
        · rw [if_neg (by omega)]
          exact hF1 q (by omega) j hj
      · simp only [va_cpy]
        rw [if_neg (by omega)]
        exact hF2 q (by omega) j hj
  refine k_al0 dX6_keeps_0 ?_
  refine m_g6 hA fgX6_29_5 dX6_keeps_1 ?_
  rw [hc]
  refine k_bipush (v := 8) dX6_keeps_4 rfl ?_
  refine k_icmp_ne (tgt := 56) dX6_keeps_6 (by decide) (fun c_6 => ?_) (fun c_6 => ?_)
  · have hc9 : c < 8 := by
      rcases Nat.lt_or_ge c 8 with e | e
      · exact e
      · exact absurd (show nI c = 8 by rw [show c = 8 by omega]; decide) c_6
    rw [← uA_self (N := N) (k := 4)]
    refine tail I c (N 4) hc hc9 (fun I3 N3 e3 ⟨F2, e4, e5, e6⟩ => ?_) _
    rw [hPP]
    exact ⟨w, rfl, rfl, I3, N3, ⟨c, c, F2, hc, e3, e4, Or.inl ⟨hc9, rfl, e6⟩, e5⟩, rfl⟩
  · have hc9 : c = 8 := (nI_eq (by omega) (by decide)).mp c_6
    refine k_iconst (v := 1) dX6_keeps_9 rfl ?_
    refine k_is2 dX6_keeps_10 (Nat.le_of_ble_eq_true rfl) ?_
    rw [← uA_self (N := N) (k := 4)]
    exact loop 7 1 (N 4) (by decide) (by decide) (fun q hq => absurd hq (by omega)) (fun q hq j hj => rfl) hc9
