/-! THE MODEL: contracts of its methods, 11 (printed by tools/mk_model11.py) -/
set_option maxRecDepth 100000
theorem fgX6_72_5 : FGs "TissueBalloonsModel" 72 5 20 := ⟨RX6, TX6, 21, RX6, rfl, by decide, in_X6, Or.inl q3113, Or.inl rfl⟩
theorem fgX6_63_5 : FGs "TissueBalloonsModel" 63 5 17 := ⟨RX6, TX6, 21, RX6, rfl, by decide, in_X6, Or.inl q3110, Or.inl rfl⟩
theorem fgX6_60_5 : FGs "TissueBalloonsModel" 60 5 16 := ⟨RX6, TX6, 21, RX6, rfl, by decide, in_X6, Or.inl q3109, Or.inl rfl⟩
theorem fgX6_48_5 : FGs "TissueBalloonsModel" 48 5 12 := ⟨RX6, TX6, 21, RX6, rfl, by decide, in_X6, Or.inl q3105, Or.inl rfl⟩
theorem cvX6_219_5 : CVs "TissueBalloonsModel" 219 5 yX6_next kX6_next 0 := ⟨⟨TX6, 21, rfl⟩, q3437, q3439, qs69, q100, q3440, ⟨by decide, by decide⟩, rfl⟩
theorem fpX6_63_5 {nm : String} : FPs "TissueBalloonsModel" nm 63 5 17 .int := ⟨RX6, TX6, 21, RX6, tyX6, rfl, by decide, in_X6, tyX6_ok, nmX6, Or.inl rfl, tyX6_ok 17 (by decide), Or.inl ⟨q3110, rfl⟩⟩
theorem fpX6_72_5 {nm : String} : FPs "TissueBalloonsModel" nm 72 5 20 .boolean := ⟨RX6, TX6, 21, RX6, tyX6, rfl, by decide, in_X6, tyX6_ok, nmX6, Or.inl rfl, tyX6_ok 20 (by decide), Or.inl ⟨q3113, rfl⟩⟩
theorem cvX6_222_5 : CVs "TissueBalloonsModel" 222 5 yX6_digit kX6_digit 0 := ⟨⟨TX6, 21, rfl⟩, q3441, q3443, qs70, q100, q3444, ⟨by decide, by decide⟩, rfl⟩
/-- the reader of the model: place p, wrong or not -/
abbrev pS (I : Nat → Int32) (p : Nat) (w : Bool) : Nat → Int32 := uI (uI I 17 (nI p)) 20 (bI w)
theorem pS_17 {I : Nat → Int32} {p : Nat} {w : Bool} : pS I p w 17 = nI p := by simp [uI]
theorem pS_20 {I : Nat → Int32} {p : Nat} {w : Bool} : pS I p w 20 = bI w := by simp [uI]
theorem pS_n {I : Nat → Int32} {p k : Nat} {w : Bool} (h1 : k ≠ 17) (h2 : k ≠ 20) : pS I p w k = I k := by simp [uI, h1, h2]
theorem pS_p {I : Nat → Int32} {p q : Nat} {w : Bool} : uI (pS I p w) 17 (nI q) = pS I q w := by
  funext j
  simp only [uI]
  by_cases e1 : j = 17
  · subst e1; simp
  · by_cases e2 : j = 20
    · subst e2; simp
    · simp [e1, e2]
theorem pS_w {I : Nat → Int32} {p : Nat} {w : Bool} : uI (pS I p w) 20 1 = pS I p true := uI_uI
theorem pS_0 {I : Nat → Int32} : uI (uI I 17 0) 20 0 = pS I 0 false := rfl
/-- what comes next -/
def w_nx (T : Nat → Int32) (n p : Nat) (w : Bool) : Int32 := if w = true then -1 else p_nx T n p
theorem w_nx_f {T : Nat → Int32} {n p : Nat} : w_nx T n p false = p_nx T n p := rfl
theorem w_nx_t {T : Nat → Int32} {n p : Nat} : w_nx T n p true = -1 := rfl
theorem mc_X6_next {l : Launch} (ht : l.stackTraces = false) {g : gT} {h : hp} {A : Nat → Nat} (hA : mOK A) {I R : Nat → Int32} {N : Nat → Nat → Int32} {T : Nat → Int32} (hT : N 12 = T) {n p : Nat} {w : Bool} (hf : I 16 = nI n) (hn : n ≤ 60) (hp : p ≤ n) : MM l g yX6_next kX6_next [.ref (A 21)] (mW h A (pS I p w) R N) (pI fun v_ h' => v_ = w_nx T n p w ∧ h' = mW h A (pS I p w) R N) (noX) (0) (0) := by
  refine MM.of (by decide) rfl rfl rfl (List.forall_mem_cons.mpr ⟨rfl, fun _ h => absurd h List.not_mem_nil⟩) (Nat.le_of_ble_eq_true rfl) ht fun X => ?_
  show Wk _ _ _ _ _ _ _ _ _ [some (.ref (A 21))] _ _
  subst hT
  refine Wk.gen fun PP hPP => ?_
  refine k_al0 dX6_next_0 ?_
  refine m_g20 hA fgX6_72_5 dX6_next_1 ?_
  rw [pS_20]
  refine k_if_ne (tgt := 30) dX6_next_4 (by decide) (fun c_4 => ?_) (fun c_4 => ?_)
  · refine k_iconst (v := (-1)) dX6_next_30 rfl ?_
    exact k_iret dX6_next_31 rfl rfl (by rw [hPP]; exact ⟨_, rfl, by first | (rw [bI_n0.mp c_4]; rfl) | (unfold w_nx; split; rfl; unfold p_nx; rw [if_neg (fun e => absurd c_15 (nI_ge e (by omega)))]), rfl⟩)
  · refine k_al0 dX6_next_7 ?_
    refine m_g17 hA fgX6_63_5 dX6_next_8 ?_
    rw [pS_17]
    refine k_al0 dX6_next_11 ?_
    refine m_g16 hA fgX6_60_5 dX6_next_12 ?_
    rw [pS_n (by decide) (by decide), hf]
    refine k_icmp_ge (tgt := 30) dX6_next_15 (by decide) (fun c_15 => ?_) (fun c_15 => ?_)
    · refine k_iconst (v := (-1)) dX6_next_30 rfl ?_
      exact k_iret dX6_next_31 rfl rfl (by rw [hPP]; exact ⟨_, rfl, by first | (rw [bI_n0.mp c_4]; rfl) | (unfold w_nx; split; rfl; unfold p_nx; rw [if_neg (fun e => absurd c_15 (nI_ge e (by omega)))]), rfl⟩)
    · refine k_al0 dX6_next_18 ?_
      refine m_g12 hA fgX6_48_5 dX6_next_19 ?_
      refine k_al0 dX6_next_22 ?_
      refine m_g17 hA fgX6_63_5 dX6_next_23 ?_
      rw [pS_17]
      have hpn : p < n := by
        rcases Nat.lt_or_ge p n with e | e
        · exact e
        · exact absurd (nI_le e (by omega)) c_15
      refine m_ld hA (by decide) (by decide) (by decide) dX6_next_26 (ixI_n (by omega)) (show p < 60 by omega) ?_
      refine k_goto (tgt := 31) dX6_next_27 (by decide) ?_
      exact k_iret dX6_next_31 rfl rfl (by rw [hPP]; exact ⟨_, rfl, by rw [show w = false by simpa using bI_0.mp (by simpa using c_4), w_nx_f]; unfold p_nx; rw [if_pos hpn], rfl⟩)
theorem mc_X6_digit {l : Launch} (ht : l.stackTraces = false) {g : gT} {h : hp} {A : Nat → Nat} (hA : mOK A) {I R : Nat → Int32} {N : Nat → Nat → Int32} {T : Nat → Int32} (hT : N 12 = T) {n p : Nat} (hf : I 16 = nI n) (hn : n ≤ 60) (hp : p ≤ n) : MM l g yX6_digit kX6_digit [.ref (A 21)] (mW h A (pS I p false) R N) (pI fun v_ h' => v_ = (p_dig T n p).2.1 ∧ h' = mW h A (pS I (p_dig T n p).2.2 (!(p_dig T n p).1)) R N) (noX) (0) (0) := by
  refine MM.of (by decide) rfl rfl rfl (List.forall_mem_cons.mpr ⟨rfl, fun _ h => absurd h List.not_mem_nil⟩) (Nat.le_of_ble_eq_true rfl) ht fun X => ?_
  show Wk _ _ _ _ _ _ _ _ _ [some (.ref (A 21)), none] _ _
  subst hT
  refine Wk.gen fun PP hPP => ?_
  refine k_al0 dX6_digit_0 ?_
  refine k_cVI0 cvX6_219_5 dX6_digit_1 (mc_X6_next ht hA rfl hf hn hp) (mW_mo hA) (Nat.le_of_eq (Nat.zero_add _)) (Nat.le_of_eq (Nat.zero_add _)) (fun r_1 h_1 e_1 => ?_)
  obtain ⟨rfl, rfl⟩ := e_1
  refine k_is1 dX6_digit_4 (Nat.le_of_ble_eq_true rfl) ?_
  refine k_il1 dX6_digit_5 ?_
  refine k_bipush (v := 48) dX6_digit_6 rfl ?_
  refine k_bipush (v := 57) dX6_digit_8 rfl ?_
  refine k_cSI3 csX6_83 dX6_digit_10 (mc_X6_in ht _ _ _) (Nat.le_of_eq (Nat.zero_add _)) (Nat.le_of_eq (Nat.zero_add _)) (fun r_10 h_10 e_10 => ?_)
  obtain ⟨rfl, rfl⟩ := e_10
  refine k_if_ne (tgt := 23) dX6_digit_13 (by decide) (fun c_13 => ?_) (fun c_13 => ?_)
  · refine k_al0 dX6_digit_23 ?_
    refine k_dup dX6_digit_24 ?_
    refine m_g17 hA fgX6_63_5 dX6_digit_25 ?_
    rw [pS_17]
    refine k_iconst (v := 1) dX6_digit_28 rfl ?_
    refine k_iadd dX6_digit_29 ?_
    refine m_p17 hA fpX6_63_5 dX6_digit_30 ?_
    rw [nI_1, pS_p]
    refine k_il1 dX6_digit_33 ?_
    refine k_bipush (v := 48) dX6_digit_34 rfl ?_
    refine k_isub dX6_digit_36 ?_
    exact k_iret dX6_digit_37 rfl rfl (by rw [hPP]; exact ⟨_, rfl, by rw [p_dig_ok (bI_n0.mp c_13)]; rfl, by rw [p_dig_ok (bI_n0.mp c_13)]; rfl⟩)
  · refine k_al0 dX6_digit_16 ?_
    refine k_iconst (v := 1) dX6_digit_17 rfl ?_
    refine m_p20 hA fpX6_72_5 dX6_digit_18 (by first | exact Or.inl rfl | exact Or.inr rfl) ?_
    rw [pS_w]
    refine k_iconst (v := 0) dX6_digit_21 rfl ?_
    exact k_iret dX6_digit_22 rfl rfl (by (have hno : ¬ inB (p_nx (N 12) n p) 48 57 = true := (fun e => absurd e (by rw [show inB (p_nx (N 12) n p) 48 57 = false from bI_0.mp (show bI (inB (w_nx (N 12) n p false) 48 57) = 0 by simpa using c_13)]; decide))); rw [hPP]; exact ⟨_, rfl, by rw [p_dig_no hno], by rw [p_dig_no hno]; rfl⟩)
theorem mc_X6_digitW {l : Launch} (ht : l.stackTraces = false) {g : gT} {h : hp} {A : Nat → Nat} (hA : mOK A) {I R : Nat → Int32} {N : Nat → Nat → Int32} {T : Nat → Int32} (hT : N 12 = T) {n p : Nat} (hf : I 16 = nI n) (hn : n ≤ 60) (hp : p ≤ n) : MM l g yX6_digit kX6_digit [.ref (A 21)] (mW h A (pS I p true) R N) (pI fun v_ h' => v_ = 0 ∧ h' = mW h A (pS I p true) R N) (noX) (0) (0) := by
  refine MM.of (by decide) rfl rfl rfl (List.forall_mem_cons.mpr ⟨rfl, fun _ h => absurd h List.not_mem_nil⟩) (Nat.le_of_ble_eq_true rfl) ht fun X => ?_
  show Wk _ _ _ _ _ _ _ _ _ [some (.ref (A 21)), none] _ _
  subst hT
  refine Wk.gen fun PP hPP => ?_
  refine k_al0 dX6_digit_0 ?_
  refine k_cVI0 cvX6_219_5 dX6_digit_1 (mc_X6_next ht hA rfl hf hn hp) (mW_mo hA) (Nat.le_of_eq (Nat.zero_add _)) (Nat.le_of_eq (Nat.zero_add _)) (fun r_1 h_1 e_1 => ?_)
  obtain ⟨rfl, rfl⟩ := e_1
  refine k_is1 dX6_digit_4 (Nat.le_of_ble_eq_true rfl) ?_
  refine k_il1 dX6_digit_5 ?_
  refine k_bipush (v := 48) dX6_digit_6 rfl ?_
  refine k_bipush (v := 57) dX6_digit_8 rfl ?_
  refine k_cSI3 csX6_83 dX6_digit_10 (mc_X6_in ht _ _ _) (Nat.le_of_eq (Nat.zero_add _)) (Nat.le_of_eq (Nat.zero_add _)) (fun r_10 h_10 e_10 => ?_)
  obtain ⟨rfl, rfl⟩ := e_10
  refine k_if_ne (tgt := 23) dX6_digit_13 (by decide) (fun c_13 => absurd c_13 ((fun e => e (show bI (inB (-1) 48 57) = 0 by decide)))) (fun c_13 => ?_)
  refine k_al0 dX6_digit_16 ?_
  refine k_iconst (v := 1) dX6_digit_17 rfl ?_
  refine m_p20 hA fpX6_72_5 dX6_digit_18 (by first | exact Or.inl rfl | exact Or.inr rfl) ?_
  rw [pS_w]
  refine k_iconst (v := 0) dX6_digit_21 rfl ?_
  exact k_iret dX6_digit_22 rfl rfl (by rw [hPP]; exact ⟨_, rfl, rfl, rfl⟩)
theorem p_num_1 {T : Nat → Int32} {n p : Nat} (h1 : inB (p_nx T n p) 48 57 = true) (h2 : inB (p_nx T n (p + 1)) 48 57 = true) : p_num T n p = (true, 10 * (p_nx T n p - 48) + (p_nx T n (p + 1) - 48), p + 2) := by unfold p_num; rw [p_dig_ok h1, if_pos rfl, if_pos h2]
theorem p_num_2 {T : Nat → Int32} {n p : Nat} (h1 : inB (p_nx T n p) 48 57 = true) (h2 : ¬ inB (p_nx T n (p + 1)) 48 57 = true) : p_num T n p = (true, p_nx T n p - 48, p + 1) := by unfold p_num; rw [p_dig_ok h1, if_pos rfl, if_neg h2]
theorem p_num_3 {T : Nat → Int32} {n p : Nat} (h1 : ¬ inB (p_nx T n p) 48 57 = true) : p_num T n p = (false, 0, p) := by unfold p_num; rw [p_dig_no h1, if_neg Bool.false_ne_true]
theorem mc_X6_number {l : Launch} (ht : l.stackTraces = false) {g : gT} {h : hp} {A : Nat → Nat} (hA : mOK A) {I R : Nat → Int32} {N : Nat → Nat → Int32} {T : Nat → Int32} (hT : N 12 = T) {n p : Nat} (hf : I 16 = nI n) (hn : n ≤ 60) (hp : p ≤ n) : MM l g yX6_number kX6_number [.ref (A 21)] (mW h A (pS I p false) R N) (pI fun v_ h' => v_ = (p_num T n p).2.1 ∧ h' = mW h A (pS I (p_num T n p).2.2 (!(p_num T n p).1)) R N) (noX) (0) (0) := by
  refine MM.of (by decide) rfl rfl rfl (List.forall_mem_cons.mpr ⟨rfl, fun _ h => absurd h List.not_mem_nil⟩) (Nat.le_of_ble_eq_true rfl) ht fun X => ?_
  show Wk _ _ _ _ _ _ _ _ _ [some (.ref (A 21)), none] _ _
  subst hT
  refine Wk.gen fun PP hPP => ?_
  refine k_al0 dX6_number_0 ?_
  refine k_cVI0 cvX6_222_5 dX6_number_1 (mc_X6_digit ht hA rfl hf hn hp) (mW_mo hA) (Nat.le_of_eq (Nat.zero_add _)) (Nat.le_of_eq (Nat.zero_add _)) (fun r_1 h_1 e_1 => ?_)
  obtain ⟨rfl, rfl⟩ := e_1
  by_cases h1 : inB (p_nx (N 12) n p) 48 57 = true
  · rw [p_dig_ok h1]
    show Wk _ _ _ _ _ _ _ _ _ _ _ (mW h A (pS I (p + 1) false) R N)
    refine k_is1 dX6_number_4 (Nat.le_of_ble_eq_true rfl) ?_
    refine k_al0 dX6_number_5 ?_
    refine k_cVI0 cvX6_219_5 dX6_number_6 (mc_X6_next ht hA rfl (w := false) (p := p + 1) hf hn (p_dig_lt h1)) (mW_mo hA) (Nat.le_of_eq (Nat.zero_add _)) (Nat.le_of_eq (Nat.zero_add _)) (fun r_6 h_6 e_6 => ?_)
    obtain ⟨rfl, rfl⟩ := e_6
    refine k_bipush (v := 48) dX6_number_9 rfl ?_
    refine k_bipush (v := 57) dX6_number_11 rfl ?_
    refine k_cSI3 csX6_83 dX6_number_13 (mc_X6_in ht _ _ _) (Nat.le_of_eq (Nat.zero_add _)) (Nat.le_of_eq (Nat.zero_add _)) (fun r_13 h_13 e_13 => ?_)
    obtain ⟨rfl, rfl⟩ := e_13
    refine k_if_eq (tgt := 31) dX6_number_16 (by decide) (fun c_16 => ?_) (fun c_16 => ?_)
    · refine k_il1 dX6_number_31 ?_
      exact k_iret dX6_number_32 rfl rfl (by rw [hPP, p_num_2 h1 (by rw [show inB (p_nx (N 12) n (p + 1)) 48 57 = false from bI_0.mp c_16]; decide)]; exact ⟨_, rfl, rfl, rfl⟩)
    · refine k_bipush (v := 10) dX6_number_19 rfl ?_
      refine k_il1 dX6_number_21 ?_
      refine k_imul dX6_number_22 ?_
      refine k_al0 dX6_number_23 ?_
      have h2 : inB (p_nx (N 12) n (p + 1)) 48 57 = true := bI_n0.mp c_16
      refine k_cVI0 cvX6_222_5 dX6_number_24 (mc_X6_digit ht hA rfl (p := p + 1) hf hn (p_dig_lt h1)) (mW_mo hA) (Nat.le_of_eq (Nat.zero_add _)) (Nat.le_of_eq (Nat.zero_add _)) (fun r_24 h_24 e_24 => ?_)
      obtain ⟨rfl, rfl⟩ := e_24
      rw [p_dig_ok h2]
      refine k_iadd dX6_number_27 ?_
      refine k_goto (tgt := 32) dX6_number_28 (by decide) ?_
      exact k_iret dX6_number_32 rfl rfl (by rw [hPP, p_num_1 h1 h2]; exact ⟨_, rfl, rfl, rfl⟩)
  · rw [p_dig_no h1]
    show Wk _ _ _ _ _ _ _ _ _ _ _ (mW h A (pS I p true) R N)
    refine k_is1 dX6_number_4 (Nat.le_of_ble_eq_true rfl) ?_
    refine k_al0 dX6_number_5 ?_
    refine k_cVI0 cvX6_219_5 dX6_number_6 (mc_X6_next ht hA rfl (w := true) (p := p) hf hn hp) (mW_mo hA) (Nat.le_of_eq (Nat.zero_add _)) (Nat.le_of_eq (Nat.zero_add _)) (fun r_6 h_6 e_6 => ?_)
    obtain ⟨rfl, rfl⟩ := e_6
    refine k_bipush (v := 48) dX6_number_9 rfl ?_
    refine k_bipush (v := 57) dX6_number_11 rfl ?_
    refine k_cSI3 csX6_83 dX6_number_13 (mc_X6_in ht _ _ _) (Nat.le_of_eq (Nat.zero_add _)) (Nat.le_of_eq (Nat.zero_add _)) (fun r_13 h_13 e_13 => ?_)
    obtain ⟨rfl, rfl⟩ := e_13
    refine k_if_eq (tgt := 31) dX6_number_16 (by decide) (fun c_16 => ?_) (fun c_16 => absurd ((show bI (inB (-1) 48 57) = 0 by decide)) c_16)
    refine k_il1 dX6_number_31 ?_
    exact k_iret dX6_number_32 rfl rfl (by rw [hPP, p_num_3 h1]; exact ⟨_, rfl, rfl, rfl⟩)
theorem mc_X6_takesY {l : Launch} (ht : l.stackTraces = false) {g : gT} {h : hp} {A : Nat → Nat} (hA : mOK A) {I R : Nat → Int32} {N : Nat → Nat → Int32} (c : Int32) {T : Nat → Int32} (hT : N 12 = T) {n p : Nat} (hf : I 16 = nI n) (hn : n ≤ 60) (hp : p ≤ n) (hc : p_nx T n p = c) : MM l g yX6_takes kX6_takes [.ref (A 21), .int c] (mW h A (pS I p false) R N) (pV fun h' => h' = mW h A (pS I (p + 1) false) R N) (noX) (0) (0) := by
  refine MM.of (by decide) rfl rfl rfl (List.forall_mem_cons.mpr ⟨rfl, List.forall_mem_cons.mpr ⟨rfl, fun _ h => absurd h List.not_mem_nil⟩⟩) (Nat.le_of_ble_eq_true rfl) ht fun X => ?_
  show Wk _ _ _ _ _ _ _ _ _ [some (.ref (A 21)), some (.int c)] _ _
  subst hT
  refine Wk.gen fun PP hPP => ?_
  refine k_al0 dX6_takes_0 ?_
  refine k_cVI0 cvX6_219_5 dX6_takes_1 (mc_X6_next ht hA rfl hf hn hp) (mW_mo hA) (Nat.le_of_eq (Nat.zero_add _)) (Nat.le_of_eq (Nat.zero_add _)) (fun r_1 h_1 e_1 => ?_)
  obtain ⟨rfl, rfl⟩ := e_1
  refine k_il1 dX6_takes_4 ?_
  refine k_icmp_ne (tgt := 21) dX6_takes_5 (by decide) (fun c_5 => absurd c_5 ((fun e => e hc))) (fun c_5 => ?_)
  refine k_al0 dX6_takes_8 ?_
  refine k_dup dX6_takes_9 ?_
  refine m_g17 hA fgX6_63_5 dX6_takes_10 ?_
  rw [pS_17]
  refine k_iconst (v := 1) dX6_takes_13 rfl ?_
  refine k_iadd dX6_takes_14 ?_
  refine m_p17 hA fpX6_63_5 dX6_takes_15 ?_
  rw [nI_1, pS_p]
  refine k_goto (tgt := 26) dX6_takes_18 (by decide) ?_
  exact k_vret dX6_takes_26 rfl (by rw [hPP]; exact ⟨rfl, rfl⟩)
theorem mc_X6_takesN {l : Launch} (ht : l.stackTraces = false) {g : gT} {h : hp} {A : Nat → Nat} (hA : mOK A) {I R : Nat → Int32} {N : Nat → Nat → Int32} (c : Int32) {T : Nat → Int32} (hT : N 12 = T) {n p : Nat} {w : Bool} (hf : I 16 = nI n) (hn : n ≤ 60) (hp : p ≤ n) (hc : ¬ w_nx T n p w = c) : MM l g yX6_takes kX6_takes [.ref (A 21), .int c] (mW h A (pS I p w) R N) (pV fun h' => h' = mW h A (pS I p true) R N) (noX) (0) (0) := by
  refine MM.of (by decide) rfl rfl rfl (List.forall_mem_cons.mpr ⟨rfl, List.forall_mem_cons.mpr ⟨rfl, fun _ h => absurd h List.not_mem_nil⟩⟩) (Nat.le_of_ble_eq_true rfl) ht fun X => ?_
  show Wk _ _ _ _ _ _ _ _ _ [some (.ref (A 21)), some (.int c)] _ _
  subst hT
  refine Wk.gen fun PP hPP => ?_
  refine k_al0 dX6_takes_0 ?_
  refine k_cVI0 cvX6_219_5 dX6_takes_1 (mc_X6_next ht hA rfl hf hn hp) (mW_mo hA) (Nat.le_of_eq (Nat.zero_add _)) (Nat.le_of_eq (Nat.zero_add _)) (fun r_1 h_1 e_1 => ?_)
  obtain ⟨rfl, rfl⟩ := e_1
  refine k_il1 dX6_takes_4 ?_
  refine k_icmp_ne (tgt := 21) dX6_takes_5 (by decide) (fun c_5 => ?_) (fun c_5 => absurd c_5 hc)
  refine k_al0 dX6_takes_21 ?_
  refine k_iconst (v := 1) dX6_takes_22 rfl ?_
  refine m_p20 hA fpX6_72_5 dX6_takes_23 (by first | exact Or.inl rfl | exact Or.inr rfl) ?_
  rw [pS_w]
  exact k_vret dX6_takes_26 rfl (by rw [hPP]; exact ⟨rfl, rfl⟩)
theorem p_drift_1 {T : Nat → Int32} {n p : Nat} (h : p_nx T n p = 45) : p_drift T n p = ((p_dig T n (p + 1)).1, - (p_dig T n (p + 1)).2.1, (p_dig T n (p + 1)).2.2) := by unfold p_drift; rw [if_pos h]
theorem p_drift_2 {T : Nat → Int32} {n p : Nat} (h : ¬ p_nx T n p = 45) : p_drift T n p = p_dig T n p := by unfold p_drift; rw [if_neg h]
theorem mc_X6_drift {l : Launch} (ht : l.stackTraces = false) {g : gT} {h : hp} {A : Nat → Nat} (hA : mOK A) {I R : Nat → Int32} {N : Nat → Nat → Int32} {T : Nat → Int32} (hT : N 12 = T) {n p : Nat} (hf : I 16 = nI n) (hn : n ≤ 60) (hp : p ≤ n) : MM l g yX6_drift kX6_drift [.ref (A 21)] (mW h A (pS I p false) R N) (pI fun v_ h' => v_ = (p_drift T n p).2.1 ∧ h' = mW h A (pS I (p_drift T n p).2.2 (!(p_drift T n p).1)) R N) (noX) (0) (0) := by
  refine MM.of (by decide) rfl rfl rfl (List.forall_mem_cons.mpr ⟨rfl, fun _ h => absurd h List.not_mem_nil⟩) (Nat.le_of_ble_eq_true rfl) ht fun X => ?_
  show Wk _ _ _ _ _ _ _ _ _ [some (.ref (A 21))] _ _
  subst hT
  refine Wk.gen fun PP hPP => ?_
  refine k_al0 dX6_drift_0 ?_
  refine k_cVI0 cvX6_219_5 dX6_drift_1 (mc_X6_next ht hA rfl hf hn hp) (mW_mo hA) (Nat.le_of_eq (Nat.zero_add _)) (Nat.le_of_eq (Nat.zero_add _)) (fun r_1 h_1 e_1 => ?_)
  obtain ⟨rfl, rfl⟩ := e_1
  refine k_bipush (v := 45) dX6_drift_4 rfl ?_
  refine k_icmp_eq (tgt := 14) dX6_drift_6 (by decide) (fun c_6 => ?_) (fun c_6 => ?_)
  · refine k_al0 dX6_drift_14 ?_
    refine k_dup dX6_drift_15 ?_
    refine m_g17 hA fgX6_63_5 dX6_drift_16 ?_
    rw [pS_17]
    refine k_iconst (v := 1) dX6_drift_19 rfl ?_
    refine k_iadd dX6_drift_20 ?_
    refine m_p17 hA fpX6_63_5 dX6_drift_21 ?_
    rw [nI_1, pS_p]
    refine k_al0 dX6_drift_24 ?_
    refine k_cVI0 cvX6_222_5 dX6_drift_25 (mc_X6_digit ht hA rfl (p := p + 1) hf hn (p_nx_lt (by rw [show p_nx (N 12) n p = 45 by simpa [w_nx_f] using c_6]; decide))) (mW_mo hA) (Nat.le_of_eq (Nat.zero_add _)) (Nat.le_of_eq (Nat.zero_add _)) (fun r_25 h_25 e_25 => ?_)
    obtain ⟨rfl, rfl⟩ := e_25
    refine k_ineg dX6_drift_28 ?_
    exact k_iret dX6_drift_29 rfl rfl (by rw [hPP, p_drift_1 (by simpa [w_nx_f] using c_6)]; exact ⟨_, rfl, rfl, rfl⟩)
  · refine k_al0 dX6_drift_9 ?_
    refine k_cVI0 cvX6_222_5 dX6_drift_10 (mc_X6_digit ht hA rfl hf hn hp) (mW_mo hA) (Nat.le_of_eq (Nat.zero_add _)) (Nat.le_of_eq (Nat.zero_add _)) (fun r_10 h_10 e_10 => ?_)
    obtain ⟨rfl, rfl⟩ := e_10
    exact k_iret dX6_drift_13 rfl rfl (by rw [hPP, p_drift_2 c_6]; exact ⟨_, rfl, rfl, rfl⟩)
theorem mc_X6_driftW {l : Launch} (ht : l.stackTraces = false) {g : gT} {h : hp} {A : Nat → Nat} (hA : mOK A) {I R : Nat → Int32} {N : Nat → Nat → Int32} {T : Nat → Int32} (hT : N 12 = T) {n p : Nat} (hf : I 16 = nI n) (hn : n ≤ 60) (hp : p ≤ n) : MM l g yX6_drift kX6_drift [.ref (A 21)] (mW h A (pS I p true) R N) (pI fun v_ h' => v_ = 0 ∧ h' = mW h A (pS I p true) R N) (noX) (0) (0) := by
  refine MM.of (by decide) rfl rfl rfl (List.forall_mem_cons.mpr ⟨rfl, fun _ h => absurd h List.not_mem_nil⟩) (Nat.le_of_ble_eq_true rfl) ht fun X => ?_
  show Wk _ _ _ _ _ _ _ _ _ [some (.ref (A 21))] _ _
  subst hT
  refine Wk.gen fun PP hPP => ?_
  refine k_al0 dX6_drift_0 ?_
  refine k_cVI0 cvX6_219_5 dX6_drift_1 (mc_X6_next ht hA rfl hf hn hp) (mW_mo hA) (Nat.le_of_eq (Nat.zero_add _)) (Nat.le_of_eq (Nat.zero_add _)) (fun r_1 h_1 e_1 => ?_)
  obtain ⟨rfl, rfl⟩ := e_1
  refine k_bipush (v := 45) dX6_drift_4 rfl ?_
  refine k_icmp_eq (tgt := 14) dX6_drift_6 (by decide) (fun c_6 => absurd c_6 ((show ¬ (-1 : Int32) = 45 by decide))) (fun c_6 => ?_)
  refine k_al0 dX6_drift_9 ?_
  refine k_cVI0 cvX6_222_5 dX6_drift_10 (mc_X6_digitW ht hA rfl hf hn hp) (mW_mo hA) (Nat.le_of_eq (Nat.zero_add _)) (Nat.le_of_eq (Nat.zero_add _)) (fun r_10 h_10 e_10 => ?_)
  obtain ⟨rfl, rfl⟩ := e_10
  exact k_iret dX6_drift_13 rfl rfl (by rw [hPP]; exact ⟨_, rfl, rfl, rfl⟩)
