/-! THE MODEL: contracts of its methods, 7 (printed by tools/mk_model7.py) -/
set_option maxRecDepth 100000
theorem cvX6_191_5 : CVs "TissueBalloonsModel" 191 5 yX6_ends kX6_ends 2 := ⟨⟨TX6, 21, rfl⟩, q3401, q3403, qs65, q100, q3404, ⟨by decide, by decide⟩, rfl⟩
theorem s_hi_0 {b : Nat} {r : List Nat} : s_hi (b :: r) 0 = some b := by simp [s_hi]
theorem s_hi_n {b : Nat} {r : List Nat} {k : Int32} (h : ¬ k = 0) : s_hi (b :: r) k = s_hi r (k - 1) := by simp only [s_hi]; rw [if_neg h]
theorem i_m1 (a : Int32) : a + Int32.ofInt (-1) = a - 1 := by rw [show Int32.ofInt (-1) = -1 by decide, ← Int32.sub_eq_add_neg]
theorem nI_m1n {a : Nat} (h : a < 2 ^ 31) : nI a - 1 < 0 ↔ a = 0 := by
  cases a with
  | zero => exact ⟨fun _ => rfl, fun _ => by decide⟩
  | succ a => rw [nI_pred]; exact ⟨fun e => absurd e (nI_pos (by omega)), fun e => absurd e (by omega)⟩
theorem mc_X6_highest {l : Launch} (ht : l.stackTraces = false) {g : gT} {h : hp} {A : Nat → Nat} (hA : mOK A) {I R : Nat → Int32} {N : Nat → Nat → Int32} (p : Int32) (h2 : R 2 = nI (nB R)) (h28 : nB R ≤ 20) : MM l g yX6_highest kX6_highest [.ref (A 21), .int p] (mW h A I R N) (mQry (q_highest R p) h A I R N) (noX) (0) (0) := by
  refine MM.of (by decide) rfl rfl rfl (List.forall_mem_cons.mpr ⟨rfl, List.forall_mem_cons.mpr ⟨rfl, fun _ h => absurd h List.not_mem_nil⟩⟩) (Nat.le_of_ble_eq_true rfl) ht fun X => ?_
  show Wk _ _ _ _ _ _ _ _ _ [some (.ref (A 21)), some (.int p), none, none, none] _ _
  refine Wk.gen fun PP hPP => ?_
  have inner : ∀ q, q < 4 → (∀ left u, s_hi (s_lw R 4) p = s_hi (s_lw R q) left → Wk l g X kX6_highest PP noX 0 0 9 [some (.ref (A 21)), some (.int p), some (.int left), some (.int (nI q - 1)), u] [] (mW h A (uI I 5 0) R N)) → ∀ d b left, b + d = nB R → s_hi (s_lw R 4) p = s_hi (s_lv R q b ++ s_lw R q) left → Wk l g X kX6_highest PP noX 0 0 16 [some (.ref (A 21)), some (.int p), some (.int left), some (.int (nI q)), some (.int (nI b))] [] (mW h A (uI I 5 0) R N) := by
    intro q hl out d
    induction d with
    | zero =>
      intro b left hbd he
      have hb : b = nB R := by omega
      refine k_il4 dX6_highest_16 ?_
      refine k_al0 dX6_highest_18 ?_
      refine m_g0 hA fgX6_7_5 dX6_highest_19 ?_
      refine k_iconst (v := 2) dX6_highest_22 rfl ?_
      refine m_ldn hA dX6_highest_23 (⟨rfl, by decide⟩ : ixI _ 2) (by decide) ?_
      rw [h2]
      refine k_icmp_ge (tgt := 66) dX6_highest_24 (by decide) (fun c_24 => ?_) (fun c_24 => absurd ((show nI (nB R) ≤ nI b by rw [hb]; exact Int32.le_refl _)) c_24)
      refine k_ic3 (v := nI q - 1) dX6_highest_66 (i_m1 _) (Nat.le_of_ble_eq_true rfl) ?_
      refine k_goto (tgt := 9) dX6_highest_69 (by decide) ?_
      exact out left (some (.int (nI b))) (by rw [he, hb, s_lv_end]; rfl)
    | succ d ih =>
      intro b left hbd he
      have hb : b < nB R := by omega
      refine k_il4 dX6_highest_16 ?_
      refine k_al0 dX6_highest_18 ?_
      refine m_g0 hA fgX6_7_5 dX6_highest_19 ?_
      refine k_iconst (v := 2) dX6_highest_22 rfl ?_
      refine m_ldn hA dX6_highest_23 (⟨rfl, by decide⟩ : ixI _ 2) (by decide) ?_
      rw [h2]
      refine k_icmp_ge (tgt := 66) dX6_highest_24 (by decide) (fun c_24 => absurd c_24 (nI_ge hb (by omega))) (fun c_24 => ?_)
      refine k_al0 dX6_highest_27 ?_
      refine k_il4 dX6_highest_28 ?_
      refine k_cVI1 cvX6_143_5 dX6_highest_30 (mc_X6_isFlying ht hA (by omega)) (mW_mo hA) (Nat.le_of_eq (Nat.zero_add _)) (Nat.le_of_eq (Nat.zero_add _)) (fun r_30 h_30 e_30 => ?_)
      obtain ⟨rfl, rfl⟩ := e_30
      refine k_if_eq (tgt := 60) dX6_highest_33 (by decide) (fun c_33 => ?_) (fun c_33 => ?_)
      · refine k_ic4 (v := nI (b + 1)) dX6_highest_60 (nI_1 b) (Nat.le_of_ble_eq_true rfl) ?_
        refine k_goto (tgt := 16) dX6_highest_63 (by decide) ?_
        refine ih (b + 1) left (by omega) ?_
        rw [he, s_lv_cons hb, if_neg (fun e => absurd e.1 (by simpa using bI_0.mp c_33))]
      · refine k_al0 dX6_highest_36 ?_
        refine k_il4 dX6_highest_37 ?_
        refine k_iconst (v := 4) dX6_highest_39 rfl ?_
        refine k_cVI2 cvX6_140_5 dX6_highest_40 (mc_X6_bv ht hA (by exact rfl) (by exact rfl) (by omega) (by first | decide | omega)) (mW_mo hA) (Nat.le_of_eq (Nat.zero_add _)) (Nat.le_of_eq (Nat.zero_add _)) (fun r_40 h_40 e_40 => ?_)
        obtain ⟨rfl, rfl⟩ := e_40
        refine k_il3 dX6_highest_43 ?_
        refine k_icmp_eq (tgt := 50) dX6_highest_44 (by decide) (fun c_44 => ?_) (fun c_44 => ?_)
        · have hc1 : R (52 + 7 * b + 0) = 1 := by simpa using bI_n0.mp c_33
          have hcons : s_lv R q b = b :: s_lv R q (b + 1) := by rw [s_lv_cons hb, if_pos ⟨hc1, c_44⟩]
          refine k_il2 dX6_highest_50 ?_
          refine k_if_ne (tgt := 57) dX6_highest_51 (by decide) (fun c_51 => ?_) (fun c_51 => ?_)
          · refine k_ic2 (v := (left - 1)) dX6_highest_57 (i_m1 _) (Nat.le_of_ble_eq_true rfl) ?_
            refine k_ic4 (v := nI (b + 1)) dX6_highest_60 (nI_1 b) (Nat.le_of_ble_eq_true rfl) ?_
            refine k_goto (tgt := 16) dX6_highest_63 (by decide) ?_
            refine ih (b + 1) (left - 1) (by omega) ?_
            rw [he, hcons, List.cons_append, s_hi_n c_51]
          · refine k_il4 dX6_highest_54 ?_
            exact k_iret dX6_highest_56 rfl rfl (by rw [hPP, show q_highest R p = (0, nI b) from (by unfold q_highest; rw [he, hcons, List.cons_append, c_51, s_hi_0])]; exact ⟨_, rfl, rfl, by first | rfl | rw [uI_uI]⟩)
        · refine k_goto (tgt := 60) dX6_highest_47 (by decide) ?_
          refine k_ic4 (v := nI (b + 1)) dX6_highest_60 (nI_1 b) (Nat.le_of_ble_eq_true rfl) ?_
          refine k_goto (tgt := 16) dX6_highest_63 (by decide) ?_
          refine ih (b + 1) left (by omega) ?_
          rw [he, s_lv_cons hb, if_neg (fun e => c_44 e.2)]
  have outer : ∀ q, q ≤ 4 → ∀ left u, s_hi (s_lw R 4) p = s_hi (s_lw R q) left → Wk l g X kX6_highest PP noX 0 0 9 [some (.ref (A 21)), some (.int p), some (.int left), some (.int (nI q - 1)), u] [] (mW h A (uI I 5 0) R N) := by
    intro q
    induction q with
    | zero =>
      intro hq left u he
      refine k_il3 dX6_highest_9 ?_
      refine k_if_lt (tgt := 72) dX6_highest_10 (by decide) (fun c_10 => ?_) (fun c_10 => absurd ((show nI 0 - 1 < 0 by decide)) c_10)
      refine k_al0 dX6_highest_72 ?_
      refine k_iconst (v := 1) dX6_highest_73 rfl ?_
      refine k_cVI1 cvX6_75_5 dX6_highest_74 (mc_X6_no ht hA _) (mW_mo hA) (Nat.le_of_eq (Nat.zero_add _)) (Nat.le_of_eq (Nat.zero_add _)) (fun r_74 h_74 e_74 => ?_)
      obtain ⟨rfl, rfl⟩ := e_74
      exact k_iret dX6_highest_77 rfl rfl (by rw [hPP, show q_highest R p = (1, 0) from (by unfold q_highest; rw [he]; rfl)]; exact ⟨_, rfl, rfl, by first | rfl | rw [uI_uI]⟩)
    | succ q ih =>
      intro hq left u he
      refine k_il3 dX6_highest_9 ?_
      refine k_if_lt (tgt := 72) dX6_highest_10 (by decide) (fun c_10 => absurd c_10 ((show ¬ nI (q + 1) - 1 < 0 from fun e => absurd ((nI_m1n (by omega)).mp e) (by omega)))) (fun c_10 => ?_)
      refine k_iconst (v := 0) dX6_highest_13 rfl ?_
      refine k_is4 dX6_highest_14 (Nat.le_of_ble_eq_true rfl) ?_
      rw [nI_pred]
      exact inner q (by omega) (ih (by omega)) (nB R) 0 left (by omega) he
  refine k_al0 dX6_highest_0 ?_
  refine k_iconst (v := 0) dX6_highest_1 rfl ?_
  refine m_p5 hA fpX6_25_5 dX6_highest_2 ?_
  refine k_il1 dX6_highest_5 ?_
  refine k_is2 dX6_highest_6 (Nat.le_of_ble_eq_true rfl) ?_
  refine k_iconst (v := 3) dX6_highest_7 rfl ?_
  refine k_is3 dX6_highest_8 (Nat.le_of_ble_eq_true rfl) ?_
  exact outer 4 (by decide) p none rfl
theorem mc_X6_ranked {l : Launch} (ht : l.stackTraces = false) {g : gT} {h : hp} {A : Nat → Nat} (hA : mOK A) {I R : Nat → Int32} {N : Nat → Nat → Int32} (p : Int32) (h2 : R 2 = nI (nB R)) (h28 : nB R ≤ 20) : MM l g yX6_ranked kX6_ranked [.ref (A 21), .int p] (mW h A I R N) (mQry (q_ranked R p) h A I R N) (noX) (0) (0) := by
  refine MM.of (by decide) rfl rfl rfl (List.forall_mem_cons.mpr ⟨rfl, List.forall_mem_cons.mpr ⟨rfl, fun _ h => absurd h List.not_mem_nil⟩⟩) (Nat.le_of_ble_eq_true rfl) ht fun X => ?_
  show Wk _ _ _ _ _ _ _ _ _ [some (.ref (A 21)), some (.int p), none, none, none] _ _
  refine Wk.gen fun PP hPP => ?_
  have inner : ∀ i, i < nB R → Wk l g X kX6_ranked PP noX 0 0 89 [some (.ref (A 21)), some (.int p), some (.int (nI i)), some (.int (s_rank R i)), some (.int (nI (nB R)))] [] (mW h A (uI I 5 0) R N) → ∀ d o, o + d = nB R → Wk l g X kX6_ranked PP noX 0 0 22 [some (.ref (A 21)), some (.int p), some (.int (nI i)), some (.int (s_sum o (fun o => if R (52 + 7 * i + 6) < R (52 + 7 * o + 6) ∨ (R (52 + 7 * o + 6) = R (52 + 7 * i + 6) ∧ o < i) then 1 else 0))), some (.int (nI o))] [] (mW h A (uI I 5 0) R N) := by
    intro i hi kin d
    induction d with
    | zero =>
      intro o hod
      have ho : o = nB R := by omega
      refine k_il4 dX6_ranked_22 ?_
      refine k_al0 dX6_ranked_24 ?_
      refine m_g0 hA fgX6_7_5 dX6_ranked_25 ?_
      refine k_iconst (v := 2) dX6_ranked_28 rfl ?_
      refine m_ldn hA dX6_ranked_29 (⟨rfl, by decide⟩ : ixI _ 2) (by decide) ?_
      rw [h2]
      refine k_icmp_ge (tgt := 89) dX6_ranked_30 (by decide) (fun c_30 => ?_) (fun c_30 => absurd ((show nI (nB R) ≤ nI o by rw [ho]; exact Int32.le_refl _)) c_30)
      subst ho
      exact kin
    | succ d ih =>
      intro o hod
      have ho : o < nB R := by omega
      refine k_il4 dX6_ranked_22 ?_
      refine k_al0 dX6_ranked_24 ?_
      refine m_g0 hA fgX6_7_5 dX6_ranked_25 ?_
      refine k_iconst (v := 2) dX6_ranked_28 rfl ?_
      refine m_ldn hA dX6_ranked_29 (⟨rfl, by decide⟩ : ixI _ 2) (by decide) ?_
      rw [h2]
      refine k_icmp_ge (tgt := 89) dX6_ranked_30 (by decide) (fun c_30 => absurd c_30 (nI_ge ho (by omega))) (fun c_30 => ?_)
      refine k_il3 dX6_ranked_33 ?_
      refine k_al0 dX6_ranked_34 ?_
      refine k_il4 dX6_ranked_35 ?_
      refine k_bipush (v := 6) dX6_ranked_37 rfl ?_
      refine k_cVI2 cvX6_140_5 dX6_ranked_39 (mc_X6_bv ht hA (by exact rfl) (by exact rfl) (by omega) (by first | decide | omega)) (mW_mo hA) (Nat.le_of_eq (Nat.zero_add _)) (Nat.le_of_eq (Nat.zero_add _)) (fun r_39 h_39 e_39 => ?_)
      obtain ⟨rfl, rfl⟩ := e_39
      refine k_al0 dX6_ranked_42 ?_
      refine k_il2 dX6_ranked_43 ?_
      refine k_bipush (v := 6) dX6_ranked_44 rfl ?_
      refine k_cVI2 cvX6_140_5 dX6_ranked_46 (mc_X6_bv ht hA (by exact rfl) (by exact rfl) (by omega) (by first | decide | omega)) (mW_mo hA) (Nat.le_of_eq (Nat.zero_add _)) (Nat.le_of_eq (Nat.zero_add _)) (fun r_46 h_46 e_46 => ?_)
      obtain ⟨rfl, rfl⟩ := e_46
      refine k_icmp_gt (tgt := 76) dX6_ranked_49 (by decide) (fun c_49 => ?_) (fun c_49 => ?_)
      · refine k_iconst (v := 1) dX6_ranked_76 rfl ?_
        refine k_goto (tgt := 81) dX6_ranked_77 (by decide) ?_
        refine k_iadd dX6_ranked_81 ?_
        refine Wk.top (v' := .int (s_sum (o + 1) (fun o => if R (52 + 7 * i + 6) < R (52 + 7 * o + 6) ∨ (R (52 + 7 * o + 6) = R (52 + 7 * i + 6) ∧ o < i) then 1 else 0))) (congrArg Value.int (show _ = s_sum o _ + (if R (52 + 7 * i + 6) < R (52 + 7 * o + 6) ∨ (R (52 + 7 * o + 6) = R (52 + 7 * i + 6) ∧ o < i) then 1 else 0) by rw [if_pos (Or.inl c_49)])) ?_
        refine k_is3 dX6_ranked_82 (Nat.le_of_ble_eq_true rfl) ?_
        refine k_ic4 (v := nI (o + 1)) dX6_ranked_83 (nI_1 o) (Nat.le_of_ble_eq_true rfl) ?_
        refine k_goto (tgt := 22) dX6_ranked_86 (by decide) ?_
        exact ih (o + 1) (by omega)
      · refine k_al0 dX6_ranked_52 ?_
        refine k_il4 dX6_ranked_53 ?_
        refine k_bipush (v := 6) dX6_ranked_55 rfl ?_
        refine k_cVI2 cvX6_140_5 dX6_ranked_57 (mc_X6_bv ht hA (by exact rfl) (by exact rfl) (by omega) (by first | decide | omega)) (mW_mo hA) (Nat.le_of_eq (Nat.zero_add _)) (Nat.le_of_eq (Nat.zero_add _)) (fun r_57 h_57 e_57 => ?_)
        obtain ⟨rfl, rfl⟩ := e_57
        refine k_al0 dX6_ranked_60 ?_
        refine k_il2 dX6_ranked_61 ?_
        refine k_bipush (v := 6) dX6_ranked_62 rfl ?_
        refine k_cVI2 cvX6_140_5 dX6_ranked_64 (mc_X6_bv ht hA (by exact rfl) (by exact rfl) (by first | assumption | omega) (by first | decide | omega)) (mW_mo hA) (Nat.le_of_eq (Nat.zero_add _)) (Nat.le_of_eq (Nat.zero_add _)) (fun r_64 h_64 e_64 => ?_)
        obtain ⟨rfl, rfl⟩ := e_64
        refine k_icmp_ne (tgt := 80) dX6_ranked_67 (by decide) (fun c_67 => ?_) (fun c_67 => ?_)
        · refine k_iconst (v := 0) dX6_ranked_80 rfl ?_
          refine k_iadd dX6_ranked_81 ?_
          refine Wk.top (v' := .int (s_sum (o + 1) (fun o => if R (52 + 7 * i + 6) < R (52 + 7 * o + 6) ∨ (R (52 + 7 * o + 6) = R (52 + 7 * i + 6) ∧ o < i) then 1 else 0))) (congrArg Value.int (show _ = s_sum o _ + (if R (52 + 7 * i + 6) < R (52 + 7 * o + 6) ∨ (R (52 + 7 * o + 6) = R (52 + 7 * i + 6) ∧ o < i) then 1 else 0) by rw [if_neg (fun e => e.elim c_49 (fun e => c_67 e.1))])) ?_
          refine k_is3 dX6_ranked_82 (Nat.le_of_ble_eq_true rfl) ?_
          refine k_ic4 (v := nI (o + 1)) dX6_ranked_83 (nI_1 o) (Nat.le_of_ble_eq_true rfl) ?_
          refine k_goto (tgt := 22) dX6_ranked_86 (by decide) ?_
          exact ih (o + 1) (by omega)
        · refine k_il4 dX6_ranked_70 ?_
          refine k_il2 dX6_ranked_72 ?_
          refine k_icmp_ge (tgt := 80) dX6_ranked_73 (by decide) (fun c_73 => ?_) (fun c_73 => ?_)
          · refine k_iconst (v := 0) dX6_ranked_80 rfl ?_
            refine k_iadd dX6_ranked_81 ?_
            refine Wk.top (v' := .int (s_sum (o + 1) (fun o => if R (52 + 7 * i + 6) < R (52 + 7 * o + 6) ∨ (R (52 + 7 * o + 6) = R (52 + 7 * i + 6) ∧ o < i) then 1 else 0))) (congrArg Value.int (show _ = s_sum o _ + (if R (52 + 7 * i + 6) < R (52 + 7 * o + 6) ∨ (R (52 + 7 * o + 6) = R (52 + 7 * i + 6) ∧ o < i) then 1 else 0) by rw [if_neg (fun e => e.elim c_49 (fun e => absurd e.2 (Nat.not_lt.mpr ((nI_leI (by omega) (by omega)).mp c_73))))])) ?_
            refine k_is3 dX6_ranked_82 (Nat.le_of_ble_eq_true rfl) ?_
            refine k_ic4 (v := nI (o + 1)) dX6_ranked_83 (nI_1 o) (Nat.le_of_ble_eq_true rfl) ?_
            refine k_goto (tgt := 22) dX6_ranked_86 (by decide) ?_
            exact ih (o + 1) (by omega)
          · refine k_iconst (v := 1) dX6_ranked_76 rfl ?_
            refine k_goto (tgt := 81) dX6_ranked_77 (by decide) ?_
            refine k_iadd dX6_ranked_81 ?_
            refine Wk.top (v' := .int (s_sum (o + 1) (fun o => if R (52 + 7 * i + 6) < R (52 + 7 * o + 6) ∨ (R (52 + 7 * o + 6) = R (52 + 7 * i + 6) ∧ o < i) then 1 else 0))) (congrArg Value.int (show _ = s_sum o _ + (if R (52 + 7 * i + 6) < R (52 + 7 * o + 6) ∨ (R (52 + 7 * o + 6) = R (52 + 7 * i + 6) ∧ o < i) then 1 else 0) by rw [if_pos (Or.inr ⟨by simpa using c_67, Nat.lt_of_not_le (fun e => c_73 (nI_le e (by omega)))⟩)])) ?_
            refine k_is3 dX6_ranked_82 (Nat.le_of_ble_eq_true rfl) ?_
            refine k_ic4 (v := nI (o + 1)) dX6_ranked_83 (nI_1 o) (Nat.le_of_ble_eq_true rfl) ?_
            refine k_goto (tgt := 22) dX6_ranked_86 (by decide) ?_
            exact ih (o + 1) (by omega)
  have loop : ∀ d i, i + d = nB R → (∀ j, j < i → (s_rank R j == p) = false) → Wk l g X kX6_ranked PP noX 0 0 7 [some (.ref (A 21)), some (.int p), some (.int (nI i)), none, none] [] (mW h A (uI I 5 0) R N) := by
    intro d
    induction d with
    | zero =>
      intro i hid hv
      have hi : i = nB R := by omega
      refine k_il2 dX6_ranked_7 ?_
      refine k_al0 dX6_ranked_8 ?_
      refine m_g0 hA fgX6_7_5 dX6_ranked_9 ?_
      refine k_iconst (v := 2) dX6_ranked_12 rfl ?_
      refine m_ldn hA dX6_ranked_13 (⟨rfl, by decide⟩ : ixI _ 2) (by decide) ?_
      rw [h2]
      refine k_icmp_ge (tgt := 102) dX6_ranked_14 (by decide) (fun c_14 => ?_) (fun c_14 => absurd ((show nI (nB R) ≤ nI i by rw [hi]; exact Int32.le_refl _)) c_14)
      refine k_al0 dX6_ranked_102 ?_
      refine k_iconst (v := 1) dX6_ranked_103 rfl ?_
      refine k_cVI1 cvX6_75_5 dX6_ranked_104 (mc_X6_no ht hA _) (mW_mo hA) (Nat.le_of_eq (Nat.zero_add _)) (Nat.le_of_eq (Nat.zero_add _)) (fun r_104 h_104 e_104 => ?_)
      obtain ⟨rfl, rfl⟩ := e_104
      exact k_iret dX6_ranked_107 rfl rfl (by rw [hPP, show q_ranked R p = (1, 0) from (by unfold q_ranked; rw [s_find_none (by rw [← hi]; exact hv)])]; exact ⟨_, rfl, rfl, by first | rfl | rw [uI_uI]⟩)
    | succ d ih =>
      intro i hid hv
      have hi : i < nB R := by omega
      refine k_il2 dX6_ranked_7 ?_
      refine k_al0 dX6_ranked_8 ?_
      refine m_g0 hA fgX6_7_5 dX6_ranked_9 ?_
      refine k_iconst (v := 2) dX6_ranked_12 rfl ?_
      refine m_ldn hA dX6_ranked_13 (⟨rfl, by decide⟩ : ixI _ 2) (by decide) ?_
      rw [h2]
      refine k_icmp_ge (tgt := 102) dX6_ranked_14 (by decide) (fun c_14 => absurd c_14 (nI_ge hi (by omega))) (fun c_14 => ?_)
      refine k_iconst (v := 0) dX6_ranked_17 rfl ?_
      refine k_is3 dX6_ranked_18 (Nat.le_of_ble_eq_true rfl) ?_
      refine k_iconst (v := 0) dX6_ranked_19 rfl ?_
      refine k_is4 dX6_ranked_20 (Nat.le_of_ble_eq_true rfl) ?_
      refine inner i hi ?_ (nB R) 0 (by omega)
      refine k_il3 dX6_ranked_89 ?_
      refine k_il1 dX6_ranked_90 ?_
      refine k_icmp_ne (tgt := 96) dX6_ranked_91 (by decide) (fun c_91 => ?_) (fun c_91 => ?_)
      · refine k_ic2 (v := nI (i + 1)) dX6_ranked_96 (nI_1 i) (Nat.le_of_ble_eq_true rfl) ?_
        refine k_goto (tgt := 7) dX6_ranked_99 (by decide) ?_
        refine (ih (i + 1) (by omega) (lt_s hv (by simpa using c_91))).loc (fun j v hj => ?_)
        match j, hj with
        | 0, hj => exact hj
        | 1, hj => exact hj
        | 2, hj => exact hj
        | 3, hj => exact absurd hj (by simp)
        | 4, hj => exact absurd hj (by simp)
        | j + 5, hj => exact absurd hj (by simp)
      · refine k_il2 dX6_ranked_94 ?_
        exact k_iret dX6_ranked_95 rfl rfl (by rw [hPP, show q_ranked R p = (0, nI i) from (by unfold q_ranked; rw [s_find_some hi (by simpa using c_91) hv])]; exact ⟨_, rfl, rfl, by first | rfl | rw [uI_uI]⟩)
  refine k_al0 dX6_ranked_0 ?_
  refine k_iconst (v := 0) dX6_ranked_1 rfl ?_
  refine m_p5 hA fpX6_25_5 dX6_ranked_2 ?_
  refine k_iconst (v := 0) dX6_ranked_5 rfl ?_
  refine k_is2 dX6_ranked_6 (Nat.le_of_ble_eq_true rfl) ?_
  exact loop (nB R) 0 (by omega) lt_0
theorem mc_X6_ends {l : Launch} (ht : l.stackTraces = false) {g : gT} {h : hp} {A : Nat → Nat} (hA : mOK A) {I R : Nat → Int32} {N : Nat → Nat → Int32} {b : Nat} (hb : b < 20) (st : Int32) : MM l g yX6_ends kX6_ends [.ref (A 21), .int (nI b), .int st] (mW h A I R N) (pV fun h' => h' = mW h A (I) (s_ends R b st) (N)) (noX) (0) (0) := by
  refine MM.of (by decide) rfl rfl rfl (List.forall_mem_cons.mpr ⟨rfl, List.forall_mem_cons.mpr ⟨rfl, List.forall_mem_cons.mpr ⟨rfl, fun _ h => absurd h List.not_mem_nil⟩⟩⟩) (Nat.le_of_ble_eq_true rfl) ht fun X => ?_
  show Wk _ _ _ _ _ _ _ _ _ [some (.ref (A 21)), some (.int (nI b)), some (.int st)] _ _
  refine k_al0 dX6_ends_0 ?_
  refine k_il1 dX6_ends_1 ?_
  refine k_iconst (v := 0) dX6_ends_2 rfl ?_
  refine k_il2 dX6_ends_3 ?_
  refine k_cVV3 cvX6_146_5 dX6_ends_4 (mc_X6_lb ht hA (j := 0) (by exact rfl) rfl (by omega) (by decide)) (mW_mo hA) (Nat.le_of_eq (Nat.zero_add _)) (Nat.le_of_eq (Nat.zero_add _)) (fun h_4 e_4 => ?_)
  subst e_4
  refine k_al0 dX6_ends_7 ?_
  refine k_il1 dX6_ends_8 ?_
  refine k_iconst (v := 4) dX6_ends_9 rfl ?_
  refine k_iconst (v := (-1)) dX6_ends_10 rfl ?_
  refine k_cVV3 cvX6_146_5 dX6_ends_11 (mc_X6_lb ht hA (j := 4) (by exact rfl) rfl (by omega) (by decide)) (mW_mo hA) (Nat.le_of_eq (Nat.zero_add _)) (Nat.le_of_eq (Nat.zero_add _)) (fun h_11 e_11 => ?_)
  subst e_11
  refine k_il2 dX6_ends_14 ?_
  refine k_iconst (v := 4) dX6_ends_15 rfl ?_
  refine k_icmp_ne (tgt := 26) dX6_ends_16 (by decide) (fun c_16 => ?_) (fun c_16 => ?_)
  · exact k_vret dX6_ends_26 rfl ⟨rfl, by unfold s_ends; simp only; first | rw [if_pos c_16] | rw [if_neg c_16]⟩
  · refine k_al0 dX6_ends_19 ?_
    refine k_il1 dX6_ends_20 ?_
    refine k_iconst (v := 5) dX6_ends_21 rfl ?_
    refine k_iconst (v := (-1)) dX6_ends_22 rfl ?_
    refine k_cVV3 cvX6_146_5 dX6_ends_23 (mc_X6_lb ht hA (j := 5) (by exact rfl) rfl (by omega) (by decide)) (mW_mo hA) (Nat.le_of_eq (Nat.zero_add _)) (Nat.le_of_eq (Nat.zero_add _)) (fun h_23 e_23 => ?_)
    subst e_23
    exact k_vret dX6_ends_26 rfl ⟨rfl, by unfold s_ends; simp only; first | rw [if_pos c_16] | rw [if_neg c_16]⟩

theorem s_lands_no {R : Row} {b : Nat} (h : s_roofAt R (R (52 + 7 * b + 5)) = none) : s_lands R b = s_ends R b 2 := by unfold s_lands; rw [h]
theorem s_lands_b {R : Row} {b r : Nat} (h : s_roofAt R (R (52 + 7 * b + 5)) = some r) (hb : s_burns R b r = true) : s_lands R b = s_ends (upd (upd R (12 + 5 * r + 4) (R (12 + 5 * r + 4) + 1)) (12 + 5 * r + 3) 1) b 3 := by unfold s_lands; rw [h]; simp only; rw [if_pos hb]
theorem s_lands_d {R : Row} {b r : Nat} (h : s_roofAt R (R (52 + 7 * b + 5)) = some r) (hb : s_burns R b r = false) : s_lands R b = s_ends (upd R (12 + 5 * r + 4) (R (12 + 5 * r + 4) + 1)) b 2 := by unfold s_lands; rw [h]; simp only; rw [if_neg (by rw [hb]; decide)]
theorem mc_X6_lands {l : Launch} (ht : l.stackTraces = false) {g : gT} {h : hp} {A : Nat → Nat} (hA : mOK A) {I R : Nat → Int32} {N : Nat → Nat → Int32} {b : Nat} (hb : b < 20) (h1 : R 1 = nI (nR R)) (h18 : nR R ≤ 8) : MM l g yX6_lands kX6_lands [.ref (A 21), .int (nI b)] (mW h A I R N) (pV fun h' => h' = mW h A I (s_lands R b) N) (noX) (0) (0) := by
  refine MM.of (by decide) rfl rfl rfl (List.forall_mem_cons.mpr ⟨rfl, List.forall_mem_cons.mpr ⟨rfl, fun _ h => absurd h List.not_mem_nil⟩⟩) (Nat.le_of_ble_eq_true rfl) ht fun X => ?_
  show Wk _ _ _ _ _ _ _ _ _ [some (.ref (A 21)), some (.int (nI b)), none, none] _ _
  refine Wk.gen fun PP hPP => ?_
  refine k_al0 dX6_lands_0 ?_
  refine k_al0 dX6_lands_1 ?_
  refine k_il1 dX6_lands_2 ?_
  refine k_iconst (v := 5) dX6_lands_3 rfl ?_
  refine k_cVI2 cvX6_140_5 dX6_lands_4 (mc_X6_bv ht hA (j := 5) (by exact rfl) rfl (by omega) (by decide)) (mW_mo hA) (Nat.le_of_eq (Nat.zero_add _)) (Nat.le_of_eq (Nat.zero_add _)) (fun r_4 h_4 e_4 => ?_)
  obtain ⟨rfl, rfl⟩ := e_4
  refine k_cVI1 cvX6_110_5 dX6_lands_7 (mc_X6_roofAtPlace ht hA _ h1 h18) (mW_mo hA) (Nat.le_of_eq (Nat.zero_add _)) (Nat.le_of_eq (Nat.zero_add _)) (fun r_7 h_7 e_7 => ?_)
  obtain ⟨rfl, rfl⟩ := e_7
  refine k_is2 dX6_lands_10 (Nat.le_of_ble_eq_true rfl) ?_
  refine k_il2 dX6_lands_11 ?_
  refine k_if_lt (tgt := 56) dX6_lands_12 (by decide) (fun c_12 => ?_) (fun c_12 => ?_)
  · refine k_iconst (v := 0) dX6_lands_56 rfl ?_
    refine k_is3 dX6_lands_57 (Nat.le_of_ble_eq_true rfl) ?_
    refine k_il2 dX6_lands_58 ?_
    refine k_if_lt (tgt := 76) dX6_lands_59 (by decide) (fun c_59 => ?_) (fun c_59 => absurd (c_12) c_59)
    refine k_il3 dX6_lands_76 ?_
    refine k_if_eq (tgt := 87) dX6_lands_77 (by decide) (fun c_77 => ?_) (fun c_77 => absurd (rfl) c_77)
    refine k_al0 dX6_lands_87 ?_
    refine k_il1 dX6_lands_88 ?_
    refine k_il3 dX6_lands_89 ?_
    refine k_if_eq (tgt := 97) dX6_lands_90 (by decide) (fun c_90 => ?_) (fun c_90 => absurd (rfl) c_90)
    refine k_iconst (v := 2) dX6_lands_97 rfl ?_
    refine k_cVV2 cvX6_191_5 dX6_lands_98 (mc_X6_ends ht hA hb _) (mW_mo hA) (Nat.le_of_eq (Nat.zero_add _)) (Nat.le_of_eq (Nat.zero_add _)) (fun h_98 e_98 => ?_)
    subst e_98
    exact k_vret dX6_lands_101 rfl (by rw [hPP, s_lands_no (rfo_lt (s_roofAt_b h18) c_12)]; exact ⟨rfl, rfl⟩)
  · obtain ⟨r, hr⟩ := rfo_ge c_12
    have hr8 := s_roofAt_lt hr
    refine k_al0 dX6_lands_15 ?_
    refine k_il2 dX6_lands_16 ?_
    refine k_iconst (v := 3) dX6_lands_17 rfl ?_
    refine k_cVI2 cvX6_104_5 dX6_lands_18 (mc_X6_rv ht hA (r := r) (j := 3) (by rw [hr]; rfl) rfl (by omega) (by decide)) (mW_mo hA) (Nat.le_of_eq (Nat.zero_add _)) (Nat.le_of_eq (Nat.zero_add _)) (fun r_18 h_18 e_18 => ?_)
    obtain ⟨rfl, rfl⟩ := e_18
    refine k_if_ne (tgt := 56) dX6_lands_21 (by decide) (fun c_21 => ?_) (fun c_21 => ?_)
    · refine k_iconst (v := 0) dX6_lands_56 rfl ?_
      refine k_is3 dX6_lands_57 (Nat.le_of_ble_eq_true rfl) ?_
      refine k_il2 dX6_lands_58 ?_
      refine k_if_lt (tgt := 76) dX6_lands_59 (by decide) (fun c_59 => absurd c_59 ((show ¬ rfo (s_roofAt R (R (52 + 7 * b + 5))) < 0 by rw [hr]; exact nI_pos (by omega)))) (fun c_59 => ?_)
      refine k_al0 dX6_lands_62 ?_
      refine k_il2 dX6_lands_63 ?_
      refine k_iconst (v := 4) dX6_lands_64 rfl ?_
      refine k_al0 dX6_lands_65 ?_
      refine k_il2 dX6_lands_66 ?_
      refine k_iconst (v := 4) dX6_lands_67 rfl ?_
      refine k_cVI2 cvX6_104_5 dX6_lands_68 (mc_X6_rv ht hA (r := r) (j := 4) (by rw [hr]; rfl) rfl (by omega) (by decide)) (mW_mo hA) (Nat.le_of_eq (Nat.zero_add _)) (Nat.le_of_eq (Nat.zero_add _)) (fun r_68 h_68 e_68 => ?_)
      obtain ⟨rfl, rfl⟩ := e_68
      refine k_iconst (v := 1) dX6_lands_71 rfl ?_
      refine k_iadd dX6_lands_72 ?_
      refine k_cVV3 cvX6_120_5 dX6_lands_73 (mc_X6_lr ht hA (r := r) (j := 4) (by rw [hr]; rfl) rfl (by omega) (by decide)) (mW_mo hA) (Nat.le_of_eq (Nat.zero_add _)) (Nat.le_of_eq (Nat.zero_add _)) (fun h_73 e_73 => ?_)
      subst e_73
      refine k_il3 dX6_lands_76 ?_
      refine k_if_eq (tgt := 87) dX6_lands_77 (by decide) (fun c_77 => ?_) (fun c_77 => absurd (rfl) c_77)
      refine k_al0 dX6_lands_87 ?_
      refine k_il1 dX6_lands_88 ?_
      refine k_il3 dX6_lands_89 ?_
      refine k_if_eq (tgt := 97) dX6_lands_90 (by decide) (fun c_90 => ?_) (fun c_90 => absurd (rfl) c_90)
      refine k_iconst (v := 2) dX6_lands_97 rfl ?_
      refine k_cVV2 cvX6_191_5 dX6_lands_98 (mc_X6_ends ht hA hb _) (mW_mo hA) (Nat.le_of_eq (Nat.zero_add _)) (Nat.le_of_eq (Nat.zero_add _)) (fun h_98 e_98 => ?_)
      subst e_98
      exact k_vret dX6_lands_101 rfl (by rw [hPP, s_lands_d hr (by unfold s_burns; exact decide_eq_false (fun e => c_21 e.1))]; exact ⟨rfl, rfl⟩)
    · refine k_al0 dX6_lands_24 ?_
      refine k_il1 dX6_lands_25 ?_
      refine k_iconst (v := 3) dX6_lands_26 rfl ?_
      refine k_cVI2 cvX6_140_5 dX6_lands_27 (mc_X6_bv ht hA (j := 3) (by exact rfl) rfl (by omega) (by decide)) (mW_mo hA) (Nat.le_of_eq (Nat.zero_add _)) (Nat.le_of_eq (Nat.zero_add _)) (fun r_27 h_27 e_27 => ?_)
      obtain ⟨rfl, rfl⟩ := e_27
      refine k_if_le (tgt := 56) dX6_lands_30 (by decide) (fun c_30 => ?_) (fun c_30 => ?_)
      · refine k_iconst (v := 0) dX6_lands_56 rfl ?_
        refine k_is3 dX6_lands_57 (Nat.le_of_ble_eq_true rfl) ?_
        refine k_il2 dX6_lands_58 ?_
        refine k_if_lt (tgt := 76) dX6_lands_59 (by decide) (fun c_59 => absurd c_59 ((show ¬ rfo (s_roofAt R (R (52 + 7 * b + 5))) < 0 by rw [hr]; exact nI_pos (by omega)))) (fun c_59 => ?_)
        refine k_al0 dX6_lands_62 ?_
        refine k_il2 dX6_lands_63 ?_
        refine k_iconst (v := 4) dX6_lands_64 rfl ?_
        refine k_al0 dX6_lands_65 ?_
        refine k_il2 dX6_lands_66 ?_
        refine k_iconst (v := 4) dX6_lands_67 rfl ?_
        refine k_cVI2 cvX6_104_5 dX6_lands_68 (mc_X6_rv ht hA (r := r) (j := 4) (by rw [hr]; rfl) rfl (by omega) (by decide)) (mW_mo hA) (Nat.le_of_eq (Nat.zero_add _)) (Nat.le_of_eq (Nat.zero_add _)) (fun r_68 h_68 e_68 => ?_)
        obtain ⟨rfl, rfl⟩ := e_68
        refine k_iconst (v := 1) dX6_lands_71 rfl ?_
        refine k_iadd dX6_lands_72 ?_
        refine k_cVV3 cvX6_120_5 dX6_lands_73 (mc_X6_lr ht hA (r := r) (j := 4) (by rw [hr]; rfl) rfl (by omega) (by decide)) (mW_mo hA) (Nat.le_of_eq (Nat.zero_add _)) (Nat.le_of_eq (Nat.zero_add _)) (fun h_73 e_73 => ?_)
        subst e_73
        refine k_il3 dX6_lands_76 ?_
        refine k_if_eq (tgt := 87) dX6_lands_77 (by decide) (fun c_77 => ?_) (fun c_77 => absurd (rfl) c_77)
        refine k_al0 dX6_lands_87 ?_
        refine k_il1 dX6_lands_88 ?_
        refine k_il3 dX6_lands_89 ?_
        refine k_if_eq (tgt := 97) dX6_lands_90 (by decide) (fun c_90 => ?_) (fun c_90 => absurd (rfl) c_90)
        refine k_iconst (v := 2) dX6_lands_97 rfl ?_
        refine k_cVV2 cvX6_191_5 dX6_lands_98 (mc_X6_ends ht hA hb _) (mW_mo hA) (Nat.le_of_eq (Nat.zero_add _)) (Nat.le_of_eq (Nat.zero_add _)) (fun h_98 e_98 => ?_)
        subst e_98
        exact k_vret dX6_lands_101 rfl (by rw [hPP, s_lands_d hr (by unfold s_burns; exact decide_eq_false (fun e => absurd e.2.1 (Int32.not_lt.mpr c_30)))]; exact ⟨rfl, rfl⟩)
      · refine k_al0 dX6_lands_33 ?_
        refine k_il2 dX6_lands_34 ?_
        refine k_iconst (v := 1) dX6_lands_35 rfl ?_
        refine k_cVI2 cvX6_104_5 dX6_lands_36 (mc_X6_rv ht hA (r := r) (j := 1) (by rw [hr]; rfl) rfl (by omega) (by decide)) (mW_mo hA) (Nat.le_of_eq (Nat.zero_add _)) (Nat.le_of_eq (Nat.zero_add _)) (fun r_36 h_36 e_36 => ?_)
        obtain ⟨rfl, rfl⟩ := e_36
        refine k_iconst (v := 3) dX6_lands_39 rfl ?_
        refine k_icmp_ge (tgt := 56) dX6_lands_40 (by decide) (fun c_40 => ?_) (fun c_40 => ?_)
        · refine k_iconst (v := 0) dX6_lands_56 rfl ?_
          refine k_is3 dX6_lands_57 (Nat.le_of_ble_eq_true rfl) ?_
          refine k_il2 dX6_lands_58 ?_
          refine k_if_lt (tgt := 76) dX6_lands_59 (by decide) (fun c_59 => absurd c_59 ((show ¬ rfo (s_roofAt R (R (52 + 7 * b + 5))) < 0 by rw [hr]; exact nI_pos (by omega)))) (fun c_59 => ?_)
          refine k_al0 dX6_lands_62 ?_
          refine k_il2 dX6_lands_63 ?_
          refine k_iconst (v := 4) dX6_lands_64 rfl ?_
          refine k_al0 dX6_lands_65 ?_
          refine k_il2 dX6_lands_66 ?_
          refine k_iconst (v := 4) dX6_lands_67 rfl ?_
          refine k_cVI2 cvX6_104_5 dX6_lands_68 (mc_X6_rv ht hA (r := r) (j := 4) (by rw [hr]; rfl) rfl (by omega) (by decide)) (mW_mo hA) (Nat.le_of_eq (Nat.zero_add _)) (Nat.le_of_eq (Nat.zero_add _)) (fun r_68 h_68 e_68 => ?_)
          obtain ⟨rfl, rfl⟩ := e_68
          refine k_iconst (v := 1) dX6_lands_71 rfl ?_
          refine k_iadd dX6_lands_72 ?_
          refine k_cVV3 cvX6_120_5 dX6_lands_73 (mc_X6_lr ht hA (r := r) (j := 4) (by rw [hr]; rfl) rfl (by omega) (by decide)) (mW_mo hA) (Nat.le_of_eq (Nat.zero_add _)) (Nat.le_of_eq (Nat.zero_add _)) (fun h_73 e_73 => ?_)
          subst e_73
          refine k_il3 dX6_lands_76 ?_
          refine k_if_eq (tgt := 87) dX6_lands_77 (by decide) (fun c_77 => ?_) (fun c_77 => absurd (rfl) c_77)
          refine k_al0 dX6_lands_87 ?_
          refine k_il1 dX6_lands_88 ?_
          refine k_il3 dX6_lands_89 ?_
          refine k_if_eq (tgt := 97) dX6_lands_90 (by decide) (fun c_90 => ?_) (fun c_90 => absurd (rfl) c_90)
          refine k_iconst (v := 2) dX6_lands_97 rfl ?_
          refine k_cVV2 cvX6_191_5 dX6_lands_98 (mc_X6_ends ht hA hb _) (mW_mo hA) (Nat.le_of_eq (Nat.zero_add _)) (Nat.le_of_eq (Nat.zero_add _)) (fun h_98 e_98 => ?_)
          subst e_98
          exact k_vret dX6_lands_101 rfl (by rw [hPP, s_lands_d hr (by unfold s_burns; exact decide_eq_false (fun e => absurd e.2.2.1 (Int32.not_lt.mpr c_40)))]; exact ⟨rfl, rfl⟩)
        · refine k_al0 dX6_lands_43 ?_
          refine k_il2 dX6_lands_44 ?_
          refine k_iconst (v := 2) dX6_lands_45 rfl ?_
          refine k_cVI2 cvX6_104_5 dX6_lands_46 (mc_X6_rv ht hA (r := r) (j := 2) (by rw [hr]; rfl) rfl (by omega) (by decide)) (mW_mo hA) (Nat.le_of_eq (Nat.zero_add _)) (Nat.le_of_eq (Nat.zero_add _)) (fun r_46 h_46 e_46 => ?_)
          obtain ⟨rfl, rfl⟩ := e_46
          refine k_if_ne (tgt := 56) dX6_lands_49 (by decide) (fun c_49 => ?_) (fun c_49 => ?_)
          · refine k_iconst (v := 0) dX6_lands_56 rfl ?_
            refine k_is3 dX6_lands_57 (Nat.le_of_ble_eq_true rfl) ?_
            refine k_il2 dX6_lands_58 ?_
            refine k_if_lt (tgt := 76) dX6_lands_59 (by decide) (fun c_59 => absurd c_59 ((show ¬ rfo (s_roofAt R (R (52 + 7 * b + 5))) < 0 by rw [hr]; exact nI_pos (by omega)))) (fun c_59 => ?_)
            refine k_al0 dX6_lands_62 ?_
            refine k_il2 dX6_lands_63 ?_
            refine k_iconst (v := 4) dX6_lands_64 rfl ?_
            refine k_al0 dX6_lands_65 ?_
            refine k_il2 dX6_lands_66 ?_
            refine k_iconst (v := 4) dX6_lands_67 rfl ?_
            refine k_cVI2 cvX6_104_5 dX6_lands_68 (mc_X6_rv ht hA (r := r) (j := 4) (by rw [hr]; rfl) rfl (by omega) (by decide)) (mW_mo hA) (Nat.le_of_eq (Nat.zero_add _)) (Nat.le_of_eq (Nat.zero_add _)) (fun r_68 h_68 e_68 => ?_)
            obtain ⟨rfl, rfl⟩ := e_68
            refine k_iconst (v := 1) dX6_lands_71 rfl ?_
            refine k_iadd dX6_lands_72 ?_
            refine k_cVV3 cvX6_120_5 dX6_lands_73 (mc_X6_lr ht hA (r := r) (j := 4) (by rw [hr]; rfl) rfl (by omega) (by decide)) (mW_mo hA) (Nat.le_of_eq (Nat.zero_add _)) (Nat.le_of_eq (Nat.zero_add _)) (fun h_73 e_73 => ?_)
            subst e_73
            refine k_il3 dX6_lands_76 ?_
            refine k_if_eq (tgt := 87) dX6_lands_77 (by decide) (fun c_77 => ?_) (fun c_77 => absurd (rfl) c_77)
            refine k_al0 dX6_lands_87 ?_
            refine k_il1 dX6_lands_88 ?_
            refine k_il3 dX6_lands_89 ?_
            refine k_if_eq (tgt := 97) dX6_lands_90 (by decide) (fun c_90 => ?_) (fun c_90 => absurd (rfl) c_90)
            refine k_iconst (v := 2) dX6_lands_97 rfl ?_
            refine k_cVV2 cvX6_191_5 dX6_lands_98 (mc_X6_ends ht hA hb _) (mW_mo hA) (Nat.le_of_eq (Nat.zero_add _)) (Nat.le_of_eq (Nat.zero_add _)) (fun h_98 e_98 => ?_)
            subst e_98
            exact k_vret dX6_lands_101 rfl (by rw [hPP, s_lands_d hr (by unfold s_burns; exact decide_eq_false (fun e => c_49 e.2.2.2))]; exact ⟨rfl, rfl⟩)
          · refine k_iconst (v := 1) dX6_lands_52 rfl ?_
            refine k_goto (tgt := 57) dX6_lands_53 (by decide) ?_
            refine k_is3 dX6_lands_57 (Nat.le_of_ble_eq_true rfl) ?_
            refine k_il2 dX6_lands_58 ?_
            refine k_if_lt (tgt := 76) dX6_lands_59 (by decide) (fun c_59 => absurd c_59 ((show ¬ rfo (s_roofAt R (R (52 + 7 * b + 5))) < 0 by rw [hr]; exact nI_pos (by omega)))) (fun c_59 => ?_)
            refine k_al0 dX6_lands_62 ?_
            refine k_il2 dX6_lands_63 ?_
            refine k_iconst (v := 4) dX6_lands_64 rfl ?_
            refine k_al0 dX6_lands_65 ?_
            refine k_il2 dX6_lands_66 ?_
            refine k_iconst (v := 4) dX6_lands_67 rfl ?_
            refine k_cVI2 cvX6_104_5 dX6_lands_68 (mc_X6_rv ht hA (r := r) (j := 4) (by rw [hr]; rfl) rfl (by omega) (by decide)) (mW_mo hA) (Nat.le_of_eq (Nat.zero_add _)) (Nat.le_of_eq (Nat.zero_add _)) (fun r_68 h_68 e_68 => ?_)
            obtain ⟨rfl, rfl⟩ := e_68
            refine k_iconst (v := 1) dX6_lands_71 rfl ?_
            refine k_iadd dX6_lands_72 ?_
            refine k_cVV3 cvX6_120_5 dX6_lands_73 (mc_X6_lr ht hA (r := r) (j := 4) (by rw [hr]; rfl) rfl (by omega) (by decide)) (mW_mo hA) (Nat.le_of_eq (Nat.zero_add _)) (Nat.le_of_eq (Nat.zero_add _)) (fun h_73 e_73 => ?_)
            subst e_73
            refine k_il3 dX6_lands_76 ?_
            refine k_if_eq (tgt := 87) dX6_lands_77 (by decide) (fun c_77 => absurd c_77 ((show ¬ (1 : Int32) = 0 by decide))) (fun c_77 => ?_)
            refine k_al0 dX6_lands_80 ?_
            refine k_il2 dX6_lands_81 ?_
            refine k_iconst (v := 3) dX6_lands_82 rfl ?_
            refine k_iconst (v := 1) dX6_lands_83 rfl ?_
            refine k_cVV3 cvX6_120_5 dX6_lands_84 (mc_X6_lr ht hA (r := r) (j := 3) (by rw [hr]; rfl) rfl (by omega) (by decide)) (mW_mo hA) (Nat.le_of_eq (Nat.zero_add _)) (Nat.le_of_eq (Nat.zero_add _)) (fun h_84 e_84 => ?_)
            subst e_84
            refine k_al0 dX6_lands_87 ?_
            refine k_il1 dX6_lands_88 ?_
            refine k_il3 dX6_lands_89 ?_
            refine k_if_eq (tgt := 97) dX6_lands_90 (by decide) (fun c_90 => absurd c_90 ((show ¬ (1 : Int32) = 0 by decide))) (fun c_90 => ?_)
            refine k_iconst (v := 3) dX6_lands_93 rfl ?_
            refine k_goto (tgt := 98) dX6_lands_94 (by decide) ?_
            refine k_cVV2 cvX6_191_5 dX6_lands_98 (mc_X6_ends ht hA hb _) (mW_mo hA) (Nat.le_of_eq (Nat.zero_add _)) (Nat.le_of_eq (Nat.zero_add _)) (fun h_98 e_98 => ?_)
            subst e_98
            exact k_vret dX6_lands_101 rfl (by rw [hPP, s_lands_b hr (by unfold s_burns; exact decide_eq_true ⟨by simpa using c_21, Int32.not_le.mp c_30, Int32.not_le.mp c_40, by simpa using c_49⟩)]; exact ⟨rfl, rfl⟩)
