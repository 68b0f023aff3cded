/-! THE MODEL: contracts of its methods, 8 (printed by tools/mk_model8.py) -/
set_option maxRecDepth 100000
theorem cvX6_194_5 : CVs "TissueBalloonsModel" 194 5 yX6_lands kX6_lands 1 := ⟨⟨TX6, 21, rfl⟩, q3397, q3399, qs64, q100, q3400, ⟨by decide, by decide⟩, rfl⟩
theorem cvX6_200_5 : CVs "TissueBalloonsModel" 200 5 yX6_drifts kX6_drifts 1 := ⟨⟨TX6, 21, rfl⟩, q3405, q3407, qs66, q100, q3408, ⟨by decide, by decide⟩, rfl⟩
theorem csX6_197 : CSs "TissueBalloonsModel" 197 yX6_most kX6_most 2 := ⟨q3394, q3395, q100, q3396, ⟨by decide, by decide⟩, rfl⟩
theorem s_drifts_1 {R : Row} {b q : Nat} (hl : R (52 + 7 * b + 4) = nI q) (hq : q ≤ 3) (h : inB (R (52 + 7 * b + 5) + R (8 + q)) 0 60 = false) : s_drifts R b = s_ends (upd R (52 + 7 * b + 5) (R (52 + 7 * b + 5) + R (8 + q))) b 4 := by unfold s_drifts; simp only [hl, nI_clamp (show q < 2 ^ 31 by omega)]; rw [if_pos h]
theorem s_drifts_2 {R : Row} {b q : Nat} (hl : R (52 + 7 * b + 4) = nI q) (hq : q ≤ 3) (h : inB (R (52 + 7 * b + 5) + R (8 + q)) 0 60 = true) (hd : R (8 + q) ≠ 3) (hd' : R (8 + q) ≠ -3) : s_drifts R b = upd R (52 + 7 * b + 5) (R (52 + 7 * b + 5) + R (8 + q)) := by unfold s_drifts; simp only [hl, nI_clamp (show q < 2 ^ 31 by omega)]; rw [if_neg (by rw [h]; decide), if_pos ⟨hd, hd'⟩]
theorem s_drifts_3 {R : Row} {b q : Nat} (hl : R (52 + 7 * b + 4) = nI q) (hq : q ≤ 3) (h : inB (R (52 + 7 * b + 5) + R (8 + q)) 0 60 = true) (hd : R (8 + q) = 3 ∨ R (8 + q) = -3) (ht : 0 < R (52 + 7 * b + 1) - 1) : s_drifts R b = upd (upd R (52 + 7 * b + 5) (R (52 + 7 * b + 5) + R (8 + q))) (52 + 7 * b + 1) (R (52 + 7 * b + 1) - 1) := by unfold s_drifts; simp only [hl, nI_clamp (show q < 2 ^ 31 by omega)]; rw [if_neg (by rw [h]; decide), if_neg (fun e => hd.elim e.1 e.2), if_pos ht]
theorem s_drifts_4 {R : Row} {b q : Nat} (hl : R (52 + 7 * b + 4) = nI q) (hq : q ≤ 3) (h : inB (R (52 + 7 * b + 5) + R (8 + q)) 0 60 = true) (hd : R (8 + q) = 3 ∨ R (8 + q) = -3) (ht : ¬ 0 < R (52 + 7 * b + 1) - 1) (hw : 0 < R (52 + 7 * b + 2)) : s_drifts R b = s_ends (upd (upd R (52 + 7 * b + 5) (R (52 + 7 * b + 5) + R (8 + q))) (52 + 7 * b + 1) (R (52 + 7 * b + 1) - 1)) b 3 := by unfold s_drifts; simp only [hl, nI_clamp (show q < 2 ^ 31 by omega)]; rw [if_neg (by rw [h]; decide), if_neg (fun e => hd.elim e.1 e.2), if_neg ht, if_pos hw]
theorem s_drifts_5 {R : Row} {b q : Nat} (hl : R (52 + 7 * b + 4) = nI q) (hq : q ≤ 3) (h : inB (R (52 + 7 * b + 5) + R (8 + q)) 0 60 = true) (hd : R (8 + q) = 3 ∨ R (8 + q) = -3) (ht : ¬ 0 < R (52 + 7 * b + 1) - 1) (hw : ¬ 0 < R (52 + 7 * b + 2)) : s_drifts R b = s_lands (upd (upd R (52 + 7 * b + 5) (R (52 + 7 * b + 5) + R (8 + q))) (52 + 7 * b + 1) (R (52 + 7 * b + 1) - 1)) b := by unfold s_drifts; simp only [hl, nI_clamp (show q < 2 ^ 31 by omega)]; rw [if_neg (by rw [h]; decide), if_neg (fun e => hd.elim e.1 e.2), if_neg ht, if_neg hw]
theorem nR_h1 {R R' : Row} (e : R' 1 = R 1) (h1 : R 1 = nI (nR R)) : R' 1 = nI (nR R') := by rw [nR_of e, e]; exact h1
theorem mc_X6_drifts {l : Launch} (ht : l.stackTraces = false) {g : gT} {h : hp} {A : Nat → Nat} (hA : mOK A) {I R : Nat → Int32} {N : Nat → Nat → Int32} {b : Nat} (hb : b < 20) {q : Nat} (hl : R (52 + 7 * b + 4) = nI q) (hq : q ≤ 3) (h1 : R 1 = nI (nR R)) (h18 : nR R ≤ 8) : MM l g yX6_drifts kX6_drifts [.ref (A 21), .int (nI b)] (mW h A I R N) (pV fun h' => h' = mW h A I (s_drifts R b) N) (noX) (0) (0) := by
  refine MM.of (by decide) rfl rfl rfl (List.forall_mem_cons.mpr ⟨rfl, List.forall_mem_cons.mpr ⟨rfl, fun _ h => absurd h List.not_mem_nil⟩⟩) (Nat.le_of_ble_eq_true rfl) ht fun X => ?_
  show Wk _ _ _ _ _ _ _ _ _ [some (.ref (A 21)), some (.int (nI b)), none] _ _
  refine Wk.gen fun PP hPP => ?_
  refine k_al0 dX6_drifts_0 ?_
  refine m_g0 hA fgX6_7_5 dX6_drifts_1 ?_
  refine k_bipush (v := 8) dX6_drifts_4 rfl ?_
  refine k_al0 dX6_drifts_6 ?_
  refine k_il1 dX6_drifts_7 ?_
  refine k_iconst (v := 4) dX6_drifts_8 rfl ?_
  refine k_cVI2 cvX6_140_5 dX6_drifts_9 (mc_X6_bv ht hA (j := 4) (by exact rfl) rfl (by omega) (by decide)) (mW_mo hA) (Nat.le_of_eq (Nat.zero_add _)) (Nat.le_of_eq (Nat.zero_add _)) (fun r_9 h_9 e_9 => ?_)
  obtain ⟨rfl, rfl⟩ := e_9
  rw [hl]
  refine k_iadd dX6_drifts_12 ?_
  refine Wk.top (v' := .int (nI (8 + q))) (congrArg Value.int (nI_add 8 q)) ?_
  refine m_ldn hA dX6_drifts_13 (ixI_n (by omega)) (show 8 + q < 222 by omega) ?_
  refine k_is2 dX6_drifts_14 (Nat.le_of_ble_eq_true rfl) ?_
  refine k_al0 dX6_drifts_15 ?_
  refine k_il1 dX6_drifts_16 ?_
  refine k_iconst (v := 5) dX6_drifts_17 rfl ?_
  refine k_al0 dX6_drifts_18 ?_
  refine k_il1 dX6_drifts_19 ?_
  refine k_iconst (v := 5) dX6_drifts_20 rfl ?_
  refine k_cVI2 cvX6_140_5 dX6_drifts_21 (mc_X6_bv ht hA (j := 5) (by exact rfl) rfl (by omega) (by decide)) (mW_mo hA) (Nat.le_of_eq (Nat.zero_add _)) (Nat.le_of_eq (Nat.zero_add _)) (fun r_21 h_21 e_21 => ?_)
  obtain ⟨rfl, rfl⟩ := e_21
  refine k_il2 dX6_drifts_24 ?_
  refine k_iadd dX6_drifts_25 ?_
  refine k_cVV3 cvX6_146_5 dX6_drifts_26 (mc_X6_lb ht hA (j := 5) (by exact rfl) rfl (by omega) (by decide)) (mW_mo hA) (Nat.le_of_eq (Nat.zero_add _)) (Nat.le_of_eq (Nat.zero_add _)) (fun h_26 e_26 => ?_)
  subst e_26
  refine k_al0 dX6_drifts_29 ?_
  refine k_il1 dX6_drifts_30 ?_
  refine k_iconst (v := 5) dX6_drifts_31 rfl ?_
  refine k_cVI2 cvX6_140_5 dX6_drifts_32 (mc_X6_bv ht hA (j := 5) (by exact rfl) rfl (by omega) (by decide)) (mW_mo hA) (Nat.le_of_eq (Nat.zero_add _)) (Nat.le_of_eq (Nat.zero_add _)) (fun r_32 h_32 e_32 => ?_)
  obtain ⟨rfl, rfl⟩ := e_32
  rw [upd_s]
  refine k_cSI1 csX6_107 dX6_drifts_35 (mc_X6_isPlace ht _) (Nat.le_of_eq (Nat.zero_add _)) (Nat.le_of_eq (Nat.zero_add _)) (fun r_35 h_35 e_35 => ?_)
  obtain ⟨rfl, rfl⟩ := e_35
  refine k_if_ne (tgt := 48) dX6_drifts_38 (by decide) (fun c_38 => ?_) (fun c_38 => ?_)
  · refine k_il2 dX6_drifts_48 ?_
    refine k_iconst (v := 3) dX6_drifts_49 rfl ?_
    refine k_icmp_eq (tgt := 60) dX6_drifts_50 (by decide) (fun c_50 => ?_) (fun c_50 => ?_)
    · refine k_al0 dX6_drifts_60 ?_
      refine k_il1 dX6_drifts_61 ?_
      refine k_iconst (v := 1) dX6_drifts_62 rfl ?_
      refine k_al0 dX6_drifts_63 ?_
      refine k_il1 dX6_drifts_64 ?_
      refine k_iconst (v := 1) dX6_drifts_65 rfl ?_
      refine k_cVI2 cvX6_140_5 dX6_drifts_66 (mc_X6_bv ht hA (j := 1) (by exact rfl) rfl (by omega) (by decide)) (mW_mo hA) (Nat.le_of_eq (Nat.zero_add _)) (Nat.le_of_eq (Nat.zero_add _)) (fun r_66 h_66 e_66 => ?_)
      obtain ⟨rfl, rfl⟩ := e_66
      rw [upd_n (by omega)]
      refine k_iconst (v := 1) dX6_drifts_69 rfl ?_
      refine k_isub dX6_drifts_70 ?_
      refine k_cVV3 cvX6_146_5 dX6_drifts_71 (mc_X6_lb ht hA (j := 1) (by exact rfl) rfl (by omega) (by decide)) (mW_mo hA) (Nat.le_of_eq (Nat.zero_add _)) (Nat.le_of_eq (Nat.zero_add _)) (fun h_71 e_71 => ?_)
      subst e_71
      refine k_al0 dX6_drifts_74 ?_
      refine k_il1 dX6_drifts_75 ?_
      refine k_iconst (v := 1) dX6_drifts_76 rfl ?_
      refine k_cVI2 cvX6_140_5 dX6_drifts_77 (mc_X6_bv ht hA (j := 1) (by exact rfl) rfl (by omega) (by decide)) (mW_mo hA) (Nat.le_of_eq (Nat.zero_add _)) (Nat.le_of_eq (Nat.zero_add _)) (fun r_77 h_77 e_77 => ?_)
      obtain ⟨rfl, rfl⟩ := e_77
      rw [upd_s]
      refine k_if_le (tgt := 84) dX6_drifts_80 (by decide) (fun c_80 => ?_) (fun c_80 => ?_)
      · refine k_al0 dX6_drifts_84 ?_
        refine k_il1 dX6_drifts_85 ?_
        refine k_iconst (v := 2) dX6_drifts_86 rfl ?_
        refine k_cVI2 cvX6_140_5 dX6_drifts_87 (mc_X6_bv ht hA (j := 2) (by exact rfl) rfl (by omega) (by decide)) (mW_mo hA) (Nat.le_of_eq (Nat.zero_add _)) (Nat.le_of_eq (Nat.zero_add _)) (fun r_87 h_87 e_87 => ?_)
        obtain ⟨rfl, rfl⟩ := e_87
        rw [upd_n (by omega), upd_n (by omega)]
        refine k_if_le (tgt := 102) dX6_drifts_90 (by decide) (fun c_90 => ?_) (fun c_90 => ?_)
        · refine k_al0 dX6_drifts_102 ?_
          refine k_il1 dX6_drifts_103 ?_
          refine k_cVV1 cvX6_194_5 dX6_drifts_104 (mc_X6_lands ht hA hb (nR_h1 (by rw [upd_n (by omega), upd_n (by omega)]) h1) (by rw [nR_of (R := R) (by rw [upd_n (by omega), upd_n (by omega)])]; exact h18)) (mW_mo hA) (Nat.le_of_eq (Nat.zero_add _)) (Nat.le_of_eq (Nat.zero_add _)) (fun h_104 e_104 => ?_)
          subst e_104
          exact k_vret dX6_drifts_107 rfl (by rw [hPP, show s_drifts R b = _ from s_drifts_5 hl hq (bI_n0.mp c_38) (by first | exact Or.inl c_50 | exact Or.inr c_56) (Int32.not_lt.mpr c_80) (Int32.not_lt.mpr c_90)]; exact ⟨rfl, rfl⟩)
        · refine k_al0 dX6_drifts_93 ?_
          refine k_il1 dX6_drifts_94 ?_
          refine k_iconst (v := 3) dX6_drifts_95 rfl ?_
          refine k_cVV2 cvX6_191_5 dX6_drifts_96 (mc_X6_ends ht hA hb _) (mW_mo hA) (Nat.le_of_eq (Nat.zero_add _)) (Nat.le_of_eq (Nat.zero_add _)) (fun h_96 e_96 => ?_)
          subst e_96
          refine k_goto (tgt := 107) dX6_drifts_99 (by decide) ?_
          exact k_vret dX6_drifts_107 rfl (by rw [hPP, show s_drifts R b = _ from s_drifts_4 hl hq (bI_n0.mp c_38) (by first | exact Or.inl c_50 | exact Or.inr c_56) (Int32.not_lt.mpr c_80) (Int32.not_le.mp c_90)]; exact ⟨rfl, rfl⟩)
      · exact k_vret dX6_drifts_83 rfl (by rw [hPP, show s_drifts R b = _ from s_drifts_3 hl hq (bI_n0.mp c_38) (by first | exact Or.inl c_50 | exact Or.inr c_56) (Int32.not_le.mp c_80)]; exact ⟨rfl, rfl⟩)
    · refine k_il2 dX6_drifts_53 ?_
      refine k_bipush (v := (-3)) dX6_drifts_54 rfl ?_
      refine k_icmp_eq (tgt := 60) dX6_drifts_56 (by decide) (fun c_56 => ?_) (fun c_56 => ?_)
      · refine k_al0 dX6_drifts_60 ?_
        refine k_il1 dX6_drifts_61 ?_
        refine k_iconst (v := 1) dX6_drifts_62 rfl ?_
        refine k_al0 dX6_drifts_63 ?_
        refine k_il1 dX6_drifts_64 ?_
        refine k_iconst (v := 1) dX6_drifts_65 rfl ?_
        refine k_cVI2 cvX6_140_5 dX6_drifts_66 (mc_X6_bv ht hA (j := 1) (by exact rfl) rfl (by omega) (by decide)) (mW_mo hA) (Nat.le_of_eq (Nat.zero_add _)) (Nat.le_of_eq (Nat.zero_add _)) (fun r_66 h_66 e_66 => ?_)
        obtain ⟨rfl, rfl⟩ := e_66
        rw [upd_n (by omega)]
        refine k_iconst (v := 1) dX6_drifts_69 rfl ?_
        refine k_isub dX6_drifts_70 ?_
        refine k_cVV3 cvX6_146_5 dX6_drifts_71 (mc_X6_lb ht hA (j := 1) (by exact rfl) rfl (by omega) (by decide)) (mW_mo hA) (Nat.le_of_eq (Nat.zero_add _)) (Nat.le_of_eq (Nat.zero_add _)) (fun h_71 e_71 => ?_)
        subst e_71
        refine k_al0 dX6_drifts_74 ?_
        refine k_il1 dX6_drifts_75 ?_
        refine k_iconst (v := 1) dX6_drifts_76 rfl ?_
        refine k_cVI2 cvX6_140_5 dX6_drifts_77 (mc_X6_bv ht hA (j := 1) (by exact rfl) rfl (by omega) (by decide)) (mW_mo hA) (Nat.le_of_eq (Nat.zero_add _)) (Nat.le_of_eq (Nat.zero_add _)) (fun r_77 h_77 e_77 => ?_)
        obtain ⟨rfl, rfl⟩ := e_77
        rw [upd_s]
        refine k_if_le (tgt := 84) dX6_drifts_80 (by decide) (fun c_80 => ?_) (fun c_80 => ?_)
        · refine k_al0 dX6_drifts_84 ?_
          refine k_il1 dX6_drifts_85 ?_
          refine k_iconst (v := 2) dX6_drifts_86 rfl ?_
          refine k_cVI2 cvX6_140_5 dX6_drifts_87 (mc_X6_bv ht hA (j := 2) (by exact rfl) rfl (by omega) (by decide)) (mW_mo hA) (Nat.le_of_eq (Nat.zero_add _)) (Nat.le_of_eq (Nat.zero_add _)) (fun r_87 h_87 e_87 => ?_)
          obtain ⟨rfl, rfl⟩ := e_87
          rw [upd_n (by omega), upd_n (by omega)]
          refine k_if_le (tgt := 102) dX6_drifts_90 (by decide) (fun c_90 => ?_) (fun c_90 => ?_)
          · refine k_al0 dX6_drifts_102 ?_
            refine k_il1 dX6_drifts_103 ?_
            refine k_cVV1 cvX6_194_5 dX6_drifts_104 (mc_X6_lands ht hA hb (nR_h1 (by rw [upd_n (by omega), upd_n (by omega)]) h1) (by rw [nR_of (R := R) (by rw [upd_n (by omega), upd_n (by omega)])]; exact h18)) (mW_mo hA) (Nat.le_of_eq (Nat.zero_add _)) (Nat.le_of_eq (Nat.zero_add _)) (fun h_104 e_104 => ?_)
            subst e_104
            exact k_vret dX6_drifts_107 rfl (by rw [hPP, show s_drifts R b = _ from s_drifts_5 hl hq (bI_n0.mp c_38) (by first | exact Or.inl c_50 | exact Or.inr c_56) (Int32.not_lt.mpr c_80) (Int32.not_lt.mpr c_90)]; exact ⟨rfl, rfl⟩)
          · refine k_al0 dX6_drifts_93 ?_
            refine k_il1 dX6_drifts_94 ?_
            refine k_iconst (v := 3) dX6_drifts_95 rfl ?_
            refine k_cVV2 cvX6_191_5 dX6_drifts_96 (mc_X6_ends ht hA hb _) (mW_mo hA) (Nat.le_of_eq (Nat.zero_add _)) (Nat.le_of_eq (Nat.zero_add _)) (fun h_96 e_96 => ?_)
            subst e_96
            refine k_goto (tgt := 107) dX6_drifts_99 (by decide) ?_
            exact k_vret dX6_drifts_107 rfl (by rw [hPP, show s_drifts R b = _ from s_drifts_4 hl hq (bI_n0.mp c_38) (by first | exact Or.inl c_50 | exact Or.inr c_56) (Int32.not_lt.mpr c_80) (Int32.not_le.mp c_90)]; exact ⟨rfl, rfl⟩)
        · exact k_vret dX6_drifts_83 rfl (by rw [hPP, show s_drifts R b = _ from s_drifts_3 hl hq (bI_n0.mp c_38) (by first | exact Or.inl c_50 | exact Or.inr c_56) (Int32.not_le.mp c_80)]; exact ⟨rfl, rfl⟩)
      · exact k_vret dX6_drifts_59 rfl (by rw [hPP, show s_drifts R b = _ from s_drifts_2 hl hq (bI_n0.mp c_38) c_50 c_56]; exact ⟨rfl, rfl⟩)
  · refine k_al0 dX6_drifts_41 ?_
    refine k_il1 dX6_drifts_42 ?_
    refine k_iconst (v := 4) dX6_drifts_43 rfl ?_
    refine k_cVV2 cvX6_191_5 dX6_drifts_44 (mc_X6_ends ht hA hb _) (mW_mo hA) (Nat.le_of_eq (Nat.zero_add _)) (Nat.le_of_eq (Nat.zero_add _)) (fun h_44 e_44 => ?_)
    subst e_44
    exact k_vret dX6_drifts_47 rfl (by rw [hPP, show s_drifts R b = _ from s_drifts_1 hl hq (bI_0.mp (by simpa using c_38))]; exact ⟨rfl, rfl⟩)
theorem s_fliesOn_w {R : Row} {b : Nat} (h : 0 < R (52 + 7 * b + 2)) : s_fliesOn R b = s_drifts (upd (upd (upd (upd R (52 + 7 * b + 6) (R (52 + 7 * b + 6) + 1)) 7 (R 7 + 1)) (52 + 7 * b + 2) (R (52 + 7 * b + 2) - 1)) (52 + 7 * b + 4) (if 3 < R (52 + 7 * b + 4) + 1 then 3 else R (52 + 7 * b + 4) + 1)) b := by unfold s_fliesOn; simp only; rw [if_pos h]
theorem s_fliesOn_l {R : Row} {b : Nat} (h : ¬ 0 < R (52 + 7 * b + 2)) (hl : R (52 + 7 * b + 4) = 0) : s_fliesOn R b = s_lands (upd (upd (upd R (52 + 7 * b + 6) (R (52 + 7 * b + 6) + 1)) 7 (R 7 + 1)) (52 + 7 * b + 3) (if R (52 + 7 * b + 3) - 1 < 0 then 0 else R (52 + 7 * b + 3) - 1)) b := by unfold s_fliesOn; simp only; rw [if_neg h, if_pos hl]
theorem s_fliesOn_d {R : Row} {b : Nat} (h : ¬ 0 < R (52 + 7 * b + 2)) (hl : ¬ R (52 + 7 * b + 4) = 0) : s_fliesOn R b = s_drifts (upd (upd (upd (upd R (52 + 7 * b + 6) (R (52 + 7 * b + 6) + 1)) 7 (R 7 + 1)) (52 + 7 * b + 3) (if R (52 + 7 * b + 3) - 1 < 0 then 0 else R (52 + 7 * b + 3) - 1)) (52 + 7 * b + 4) (R (52 + 7 * b + 4) - 1)) b := by unfold s_fliesOn; simp only; rw [if_neg h, if_neg hl]
theorem mc_X6_fliesOn {l : Launch} (ht : l.stackTraces = false) {g : gT} {h : hp} {A : Nat → Nat} (hA : mOK A) {I R : Nat → Int32} {N : Nat → Nat → Int32} {b : Nat} (hb : b < 20) {q : Nat} (hl : R (52 + 7 * b + 4) = nI q) (hq : q ≤ 3) (h1 : R 1 = nI (nR R)) (h18 : nR R ≤ 8) : MM l g yX6_fliesOn kX6_fliesOn [.ref (A 21), .int (nI b)] (mW h A I R N) (pV fun h' => h' = mW h A I (s_fliesOn R b) N) (noX) (0) (0) := by
  refine MM.of (by decide) rfl rfl rfl (List.forall_mem_cons.mpr ⟨rfl, List.forall_mem_cons.mpr ⟨rfl, fun _ h => absurd h List.not_mem_nil⟩⟩) (Nat.le_of_ble_eq_true rfl) ht fun X => ?_
  show Wk _ _ _ _ _ _ _ _ _ [some (.ref (A 21)), some (.int (nI b))] _ _
  refine Wk.gen fun PP hPP => ?_
  refine k_al0 dX6_fliesOn_0 ?_
  refine k_il1 dX6_fliesOn_1 ?_
  refine k_bipush (v := 6) dX6_fliesOn_2 rfl ?_
  refine k_al0 dX6_fliesOn_4 ?_
  refine k_il1 dX6_fliesOn_5 ?_
  refine k_bipush (v := 6) dX6_fliesOn_6 rfl ?_
  refine k_cVI2 cvX6_140_5 dX6_fliesOn_8 (mc_X6_bv ht hA (j := 6) (by exact rfl) rfl (by omega) (by decide)) (mW_mo hA) (Nat.le_of_eq (Nat.zero_add _)) (Nat.le_of_eq (Nat.zero_add _)) (fun r_8 h_8 e_8 => ?_)
  obtain ⟨rfl, rfl⟩ := e_8
  refine k_iconst (v := 1) dX6_fliesOn_11 rfl ?_
  refine k_iadd dX6_fliesOn_12 ?_
  refine k_cVV3 cvX6_146_5 dX6_fliesOn_13 (mc_X6_lb ht hA (j := 6) (by exact rfl) rfl (by omega) (by decide)) (mW_mo hA) (Nat.le_of_eq (Nat.zero_add _)) (Nat.le_of_eq (Nat.zero_add _)) (fun h_13 e_13 => ?_)
  subst e_13
  refine k_al0 dX6_fliesOn_16 ?_
  refine m_g0 hA fgX6_7_5 dX6_fliesOn_17 ?_
  refine k_bipush (v := 7) dX6_fliesOn_20 rfl ?_
  refine k_dup2 dX6_fliesOn_22 ?_
  refine m_ldn hA dX6_fliesOn_23 (⟨rfl, by decide⟩ : ixI _ 7) (by decide) ?_
  rw [upd_n (by omega)]
  refine k_iconst (v := 1) dX6_fliesOn_24 rfl ?_
  refine k_iadd dX6_fliesOn_25 ?_
  refine m_stn hA dX6_fliesOn_26 (⟨rfl, by decide⟩ : ixI _ 7) (by decide) ?_
  refine k_al0 dX6_fliesOn_27 ?_
  refine k_il1 dX6_fliesOn_28 ?_
  refine k_iconst (v := 2) dX6_fliesOn_29 rfl ?_
  refine k_cVI2 cvX6_140_5 dX6_fliesOn_30 (mc_X6_bv ht hA (j := 2) (by exact rfl) rfl (by omega) (by decide)) (mW_mo hA) (Nat.le_of_eq (Nat.zero_add _)) (Nat.le_of_eq (Nat.zero_add _)) (fun r_30 h_30 e_30 => ?_)
  obtain ⟨rfl, rfl⟩ := e_30
  rw [upd_n (by omega), upd_n (by omega)]
  refine k_if_le (tgt := 71) dX6_fliesOn_33 (by decide) (fun c_33 => ?_) (fun c_33 => ?_)
  · refine k_al0 dX6_fliesOn_71 ?_
    refine k_il1 dX6_fliesOn_72 ?_
    refine k_iconst (v := 3) dX6_fliesOn_73 rfl ?_
    refine k_iconst (v := 0) dX6_fliesOn_74 rfl ?_
    refine k_al0 dX6_fliesOn_75 ?_
    refine k_il1 dX6_fliesOn_76 ?_
    refine k_iconst (v := 3) dX6_fliesOn_77 rfl ?_
    refine k_cVI2 cvX6_140_5 dX6_fliesOn_78 (mc_X6_bv ht hA (j := 3) (by exact rfl) rfl (by omega) (by decide)) (mW_mo hA) (Nat.le_of_eq (Nat.zero_add _)) (Nat.le_of_eq (Nat.zero_add _)) (fun r_78 h_78 e_78 => ?_)
    obtain ⟨rfl, rfl⟩ := e_78
    rw [upd_n (by omega), upd_n (by omega)]
    refine k_iconst (v := 1) dX6_fliesOn_81 rfl ?_
    refine k_isub dX6_fliesOn_82 ?_
    refine k_cSI2 csX6_197 dX6_fliesOn_83 (mc_X6_most ht _ _) (Nat.le_of_eq (Nat.zero_add _)) (Nat.le_of_eq (Nat.zero_add _)) (fun r_83 h_83 e_83 => ?_)
    obtain ⟨rfl, rfl⟩ := e_83
    refine k_cVV3 cvX6_146_5 dX6_fliesOn_86 (mc_X6_lb ht hA (j := 3) (by exact rfl) rfl (by omega) (by decide)) (mW_mo hA) (Nat.le_of_eq (Nat.zero_add _)) (Nat.le_of_eq (Nat.zero_add _)) (fun h_86 e_86 => ?_)
    subst e_86
    refine k_al0 dX6_fliesOn_89 ?_
    refine k_il1 dX6_fliesOn_90 ?_
    refine k_iconst (v := 4) dX6_fliesOn_91 rfl ?_
    refine k_cVI2 cvX6_140_5 dX6_fliesOn_92 (mc_X6_bv ht hA (j := 4) (by exact rfl) rfl (by omega) (by decide)) (mW_mo hA) (Nat.le_of_eq (Nat.zero_add _)) (Nat.le_of_eq (Nat.zero_add _)) (fun r_92 h_92 e_92 => ?_)
    obtain ⟨rfl, rfl⟩ := e_92
    rw [upd_n (by omega), upd_n (by omega), upd_n (by omega)]
    refine k_if_ne (tgt := 104) dX6_fliesOn_95 (by decide) (fun c_95 => ?_) (fun c_95 => ?_)
    · refine k_al0 dX6_fliesOn_104 ?_
      refine k_il1 dX6_fliesOn_105 ?_
      refine k_iconst (v := 4) dX6_fliesOn_106 rfl ?_
      refine k_al0 dX6_fliesOn_107 ?_
      refine k_il1 dX6_fliesOn_108 ?_
      refine k_iconst (v := 4) dX6_fliesOn_109 rfl ?_
      refine k_cVI2 cvX6_140_5 dX6_fliesOn_110 (mc_X6_bv ht hA (j := 4) (by exact rfl) rfl (by omega) (by decide)) (mW_mo hA) (Nat.le_of_eq (Nat.zero_add _)) (Nat.le_of_eq (Nat.zero_add _)) (fun r_110 h_110 e_110 => ?_)
      obtain ⟨rfl, rfl⟩ := e_110
      rw [upd_n (by omega), upd_n (by omega), upd_n (by omega)]
      refine k_iconst (v := 1) dX6_fliesOn_113 rfl ?_
      refine k_isub dX6_fliesOn_114 ?_
      refine k_cVV3 cvX6_146_5 dX6_fliesOn_115 (mc_X6_lb ht hA (j := 4) (by exact rfl) rfl (by omega) (by decide)) (mW_mo hA) (Nat.le_of_eq (Nat.zero_add _)) (Nat.le_of_eq (Nat.zero_add _)) (fun h_115 e_115 => ?_)
      subst e_115
      refine k_al0 dX6_fliesOn_118 ?_
      refine k_il1 dX6_fliesOn_119 ?_
      refine k_cVV1 cvX6_200_5 dX6_fliesOn_120 (mc_X6_drifts ht hA hb (q := q - 1) (by rw [upd_s, hl]; obtain ⟨q1, rfl⟩ : ∃ q1, q = q1 + 1 := ⟨q - 1, by have : q ≠ 0 := (fun e => c_95 (by rw [hl, e]; rfl)); omega⟩; rw [nI_pred]; rfl) (by first | omega | (split <;> omega)) (nR_h1 (by rw [upd_n (by omega), upd_n (by omega), upd_n (by omega), upd_n (by omega)]) h1) (by rw [nR_of (R := R) (by rw [upd_n (by omega), upd_n (by omega), upd_n (by omega), upd_n (by omega)])]; exact h18)) (mW_mo hA) (Nat.le_of_eq (Nat.zero_add _)) (Nat.le_of_eq (Nat.zero_add _)) (fun h_120 e_120 => ?_)
      subst e_120
      exact k_vret dX6_fliesOn_123 rfl (by rw [hPP, s_fliesOn_d (Int32.not_lt.mpr c_33) c_95]; exact ⟨rfl, rfl⟩)
    · refine k_al0 dX6_fliesOn_98 ?_
      refine k_il1 dX6_fliesOn_99 ?_
      refine k_cVV1 cvX6_194_5 dX6_fliesOn_100 (mc_X6_lands ht hA hb (nR_h1 (by rw [upd_n (by omega), upd_n (by omega), upd_n (by omega)]) h1) (by rw [nR_of (R := R) (by rw [upd_n (by omega), upd_n (by omega), upd_n (by omega)])]; exact h18)) (mW_mo hA) (Nat.le_of_eq (Nat.zero_add _)) (Nat.le_of_eq (Nat.zero_add _)) (fun h_100 e_100 => ?_)
      subst e_100
      exact k_vret dX6_fliesOn_103 rfl (by rw [hPP, s_fliesOn_l (Int32.not_lt.mpr c_33) (by simpa using c_95)]; exact ⟨rfl, rfl⟩)
  · refine k_al0 dX6_fliesOn_36 ?_
    refine k_il1 dX6_fliesOn_37 ?_
    refine k_iconst (v := 2) dX6_fliesOn_38 rfl ?_
    refine k_al0 dX6_fliesOn_39 ?_
    refine k_il1 dX6_fliesOn_40 ?_
    refine k_iconst (v := 2) dX6_fliesOn_41 rfl ?_
    refine k_cVI2 cvX6_140_5 dX6_fliesOn_42 (mc_X6_bv ht hA (j := 2) (by exact rfl) rfl (by omega) (by decide)) (mW_mo hA) (Nat.le_of_eq (Nat.zero_add _)) (Nat.le_of_eq (Nat.zero_add _)) (fun r_42 h_42 e_42 => ?_)
    obtain ⟨rfl, rfl⟩ := e_42
    rw [upd_n (by omega), upd_n (by omega)]
    refine k_iconst (v := 1) dX6_fliesOn_45 rfl ?_
    refine k_isub dX6_fliesOn_46 ?_
    refine k_cVV3 cvX6_146_5 dX6_fliesOn_47 (mc_X6_lb ht hA (j := 2) (by exact rfl) rfl (by omega) (by decide)) (mW_mo hA) (Nat.le_of_eq (Nat.zero_add _)) (Nat.le_of_eq (Nat.zero_add _)) (fun h_47 e_47 => ?_)
    subst e_47
    refine k_al0 dX6_fliesOn_50 ?_
    refine k_il1 dX6_fliesOn_51 ?_
    refine k_iconst (v := 4) dX6_fliesOn_52 rfl ?_
    refine k_iconst (v := 3) dX6_fliesOn_53 rfl ?_
    refine k_al0 dX6_fliesOn_54 ?_
    refine k_il1 dX6_fliesOn_55 ?_
    refine k_iconst (v := 4) dX6_fliesOn_56 rfl ?_
    refine k_cVI2 cvX6_140_5 dX6_fliesOn_57 (mc_X6_bv ht hA (j := 4) (by exact rfl) rfl (by omega) (by decide)) (mW_mo hA) (Nat.le_of_eq (Nat.zero_add _)) (Nat.le_of_eq (Nat.zero_add _)) (fun r_57 h_57 e_57 => ?_)
    obtain ⟨rfl, rfl⟩ := e_57
    rw [upd_n (by omega), upd_n (by omega), upd_n (by omega)]
    refine k_iconst (v := 1) dX6_fliesOn_60 rfl ?_
    refine k_iadd dX6_fliesOn_61 ?_
    refine k_cSI2 csX6_131 dX6_fliesOn_62 (mc_X6_least ht _ _) (Nat.le_of_eq (Nat.zero_add _)) (Nat.le_of_eq (Nat.zero_add _)) (fun r_62 h_62 e_62 => ?_)
    obtain ⟨rfl, rfl⟩ := e_62
    refine k_cVV3 cvX6_146_5 dX6_fliesOn_65 (mc_X6_lb ht hA (j := 4) (by exact rfl) rfl (by omega) (by decide)) (mW_mo hA) (Nat.le_of_eq (Nat.zero_add _)) (Nat.le_of_eq (Nat.zero_add _)) (fun h_65 e_65 => ?_)
    subst e_65
    refine k_goto (tgt := 118) dX6_fliesOn_68 (by decide) ?_
    refine k_al0 dX6_fliesOn_118 ?_
    refine k_il1 dX6_fliesOn_119 ?_
    refine k_cVV1 cvX6_200_5 dX6_fliesOn_120 (mc_X6_drifts ht hA hb (q := (if 3 ≤ q then 3 else q + 1)) (by rw [upd_s, hl]; exact lay_up hq) (by first | omega | (split <;> omega)) (nR_h1 (by rw [upd_n (by omega), upd_n (by omega), upd_n (by omega), upd_n (by omega)]) h1) (by rw [nR_of (R := R) (by rw [upd_n (by omega), upd_n (by omega), upd_n (by omega), upd_n (by omega)])]; exact h18)) (mW_mo hA) (Nat.le_of_eq (Nat.zero_add _)) (Nat.le_of_eq (Nat.zero_add _)) (fun h_120 e_120 => ?_)
    subst e_120
    exact k_vret dX6_fliesOn_123 rfl (by rw [hPP, s_fliesOn_w (Int32.not_le.mp c_33)]; exact ⟨rfl, rfl⟩)
/-- but for why and number -/
def mW78 (I I' : Nat → Int32) : Prop := ∀ k, k ≠ 7 → k ≠ 8 → I' k = I k
theorem mW78.rfl' {I : Nat → Int32} : mW78 I I := fun _ _ _ => rfl
theorem mW78.trans {I I' I'' : Nat → Int32} (h : mW78 I I') (k : mW78 I' I'') : mW78 I I'' := fun j h7 h8 => (k j h7 h8).trans (h j h7 h8)
theorem mW78.why {I : Nat → Int32} {o : Option (Int32 × Int32)} : mW78 I (mWhy I o) := fun _ h7 h8 => mWhy_n h7 h8
theorem s_plansNow_s {n : Nat} {R : Row} (h : R 206 = R 0) : s_plansNow (n + 1) R = s_plansNow n (s_planNow R) := by simp only [s_plansNow]; rw [if_pos h]
theorem s_plansNow_n {n : Nat} {R : Row} (h : ¬ R 206 = R 0) : s_plansNow (n + 1) R = R := by simp only [s_plansNow]; rw [if_neg h]
theorem mc_X6_plansOfNow {l : Launch} (ht : l.stackTraces = false) {g : gT} {h : hp} {A : Nat → Nat} (hA : mOK A) {I R : Nat → Int32} {N : Nat → Nat → Int32} (hR : RI R) : MM l g yX6_plansOfNow kX6_plansOfNow [.ref (A 21)] (mW h A I R N) (pV fun h' => ∃ I', mW78 I I' ∧ h' = mW h A I' (s_plansNow (nP R) R) N) (noX) (0) (0) := by
  refine MM.of (by decide) rfl rfl rfl (List.forall_mem_cons.mpr ⟨rfl, fun _ h => absurd h List.not_mem_nil⟩) (Nat.le_of_ble_eq_true rfl) ht fun X => ?_
  show Wk _ _ _ _ _ _ _ _ _ [some (.ref (A 21)), none] _ _
  refine Wk.gen fun PP hPP => ?_
  have loop : ∀ n (R1 I1 : Nat → Int32) (u : Option Value), RI R1 → nP R1 = n → s_plansNow (nP R) R = s_plansNow n R1 → mW78 I I1 → Wk l g X kX6_plansOfNow PP noX 0 0 0 [some (.ref (A 21)), u] [] (mW h A I1 R1 N) := by
    intro n
    induction n with
    | zero =>
      intro R1 I1 u hR hn hT hI
      replace hT : s_plansNow (nP R) R = R1 := hT
      refine k_al0 dX6_plansOfNow_0 ?_
      refine m_g0 hA fgX6_7_5 dX6_plansOfNow_1 ?_
      refine k_iconst (v := 4) dX6_plansOfNow_4 rfl ?_
      refine m_ldn hA dX6_plansOfNow_5 (⟨rfl, by decide⟩ : ixI _ 4) (by decide) ?_
      rw [hR.h4, hn]
      refine k_if_le (tgt := 83) dX6_plansOfNow_6 (by decide) (fun c_6 => ?_) (fun c_6 => absurd ((show nI 0 ≤ 0 by decide)) c_6)
      exact k_vret dX6_plansOfNow_83 rfl (by rw [hPP]; exact ⟨rfl, I1, hI, by rw [hT]⟩)
    | succ n ih =>
      intro R1 I1 u hR hn hT hI
      refine k_al0 dX6_plansOfNow_0 ?_
      refine m_g0 hA fgX6_7_5 dX6_plansOfNow_1 ?_
      refine k_iconst (v := 4) dX6_plansOfNow_4 rfl ?_
      refine m_ldn hA dX6_plansOfNow_5 (⟨rfl, by decide⟩ : ixI _ 4) (by decide) ?_
      rw [hR.h4, hn]
      refine k_if_le (tgt := 83) dX6_plansOfNow_6 (by decide) (fun c_6 => absurd c_6 ((show ¬ nI (n + 1) ≤ 0 from nI_nle (by omega) (by have := hR.h48; omega)))) (fun c_6 => ?_)
      refine k_al0 dX6_plansOfNow_9 ?_
      refine k_iconst (v := 0) dX6_plansOfNow_10 rfl ?_
      refine k_iconst (v := 2) dX6_plansOfNow_11 rfl ?_
      refine k_cVI2 cvX6_167_5 dX6_plansOfNow_12 (mc_X6_pv ht hA (r := 0) (j := 2) rfl rfl (by decide) (by decide)) (mW_mo hA) (Nat.le_of_eq (Nat.zero_add _)) (Nat.le_of_eq (Nat.zero_add _)) (fun r_12 h_12 e_12 => ?_)
      obtain ⟨rfl, rfl⟩ := e_12
      refine k_al0 dX6_plansOfNow_15 ?_
      refine m_g0 hA fgX6_7_5 dX6_plansOfNow_16 ?_
      refine k_iconst (v := 0) dX6_plansOfNow_19 rfl ?_
      refine m_ldn hA dX6_plansOfNow_20 (⟨rfl, by decide⟩ : ixI _ 0) (by decide) ?_
      refine k_icmp_ne (tgt := 83) dX6_plansOfNow_21 (by decide) (fun c_21 => ?_) (fun c_21 => ?_)
      · exact k_vret dX6_plansOfNow_83 rfl (by rw [hPP, hT, s_plansNow_n c_21]; exact ⟨rfl, I1, hI, rfl⟩)
      · refine k_iconst (v := 0) dX6_plansOfNow_24 rfl ?_
        refine k_is1 dX6_plansOfNow_25 (Nat.le_of_ble_eq_true rfl) ?_
        have h28 := hR.h28
        have h38 := hR.h38
        obtain ⟨b, c, hb0, hb, hc0, hc⟩ := hR.plan0 hn
        have hq := s_planNow_eq hb0 (by omega) hc0 (by omega)
        have hp := nP_planNow hR hn
        have hst := s_plansNow_s (n := n) c_21
        refine k_al0 dX6_plansOfNow_26 ?_
        refine k_al0 dX6_plansOfNow_27 ?_
        refine k_iconst (v := 0) dX6_plansOfNow_28 rfl ?_
        refine k_iconst (v := 0) dX6_plansOfNow_29 rfl ?_
        refine k_cVI2 cvX6_167_5 dX6_plansOfNow_30 (mc_X6_pv ht hA (r := 0) (j := 0) rfl rfl (by decide) (by decide)) (mW_mo hA) (Nat.le_of_eq (Nat.zero_add _)) (Nat.le_of_eq (Nat.zero_add _)) (fun r_30 h_30 e_30 => ?_)
        obtain ⟨rfl, rfl⟩ := e_30
        rw [hb0]
        refine k_al0 dX6_plansOfNow_33 ?_
        refine k_iconst (v := 0) dX6_plansOfNow_34 rfl ?_
        refine k_iconst (v := 1) dX6_plansOfNow_35 rfl ?_
        refine k_cVI2 cvX6_167_5 dX6_plansOfNow_36 (mc_X6_pv ht hA (r := 0) (j := 1) rfl rfl (by decide) (by decide)) (mW_mo hA) (Nat.le_of_eq (Nat.zero_add _)) (Nat.le_of_eq (Nat.zero_add _)) (fun r_36 h_36 e_36 => ?_)
        obtain ⟨rfl, rfl⟩ := e_36
        rw [hc0]
        refine k_cVI2 cvX6_161_5 dX6_plansOfNow_39 (mc_X6_isRefusedLaunch ht hA (by omega) (by omega)) (mW_mo hA) (Nat.le_of_eq (Nat.zero_add _)) (Nat.le_of_eq (Nat.zero_add _)) (fun r_39 h_39 e_39 => ?_)
        obtain ⟨rfl, rfl⟩ := e_39
        refine k_if_eq (tgt := 58) dX6_plansOfNow_42 (by decide) (fun c_42 => ?_) (fun c_42 => ?_)
        · refine k_al0 dX6_plansOfNow_58 ?_
          refine k_al0 dX6_plansOfNow_59 ?_
          refine k_iconst (v := 0) dX6_plansOfNow_60 rfl ?_
          refine k_iconst (v := 0) dX6_plansOfNow_61 rfl ?_
          refine k_cVI2 cvX6_167_5 dX6_plansOfNow_62 (mc_X6_pv ht hA (r := 0) (j := 0) rfl rfl (by decide) (by decide)) (mW_mo hA) (Nat.le_of_eq (Nat.zero_add _)) (Nat.le_of_eq (Nat.zero_add _)) (fun r_62 h_62 e_62 => ?_)
          obtain ⟨rfl, rfl⟩ := e_62
          rw [hb0]
          refine k_al0 dX6_plansOfNow_65 ?_
          refine k_iconst (v := 0) dX6_plansOfNow_66 rfl ?_
          refine k_iconst (v := 1) dX6_plansOfNow_67 rfl ?_
          refine k_cVI2 cvX6_167_5 dX6_plansOfNow_68 (mc_X6_pv ht hA (r := 0) (j := 1) rfl rfl (by decide) (by decide)) (mW_mo hA) (Nat.le_of_eq (Nat.zero_add _)) (Nat.le_of_eq (Nat.zero_add _)) (fun r_68 h_68 e_68 => ?_)
          obtain ⟨rfl, rfl⟩ := e_68
          rw [hc0]
          refine k_cVI2 cvX6_164_5 dX6_plansOfNow_71 (mc_X6_launches ht hA (by omega) (by omega)) (mW_mo hA) (Nat.le_of_eq (Nat.zero_add _)) (Nat.le_of_eq (Nat.zero_add _)) (fun r_71 h_71 e_71 => ?_)
          obtain ⟨rfl, rfl⟩ := e_71
          refine k_is1 dX6_plansOfNow_74 (Nat.le_of_ble_eq_true rfl) ?_
          have hno : s_refL R1 b c = none := by simpa using bI_0.mp c_42
          have hkl := hR.launches hb hc hno
          have hnl : nP (s_launches R1 b c) = n + 1 := by rw [nP_of (R := R1) (s_launches_n (by omega) (by omega) (by omega) (by omega) (by omega) (by omega)), hn]
          refine k_al0 dX6_plansOfNow_75 ?_
          refine k_iconst (v := 0) dX6_plansOfNow_76 rfl ?_
          refine k_cVV1 cvX6_187_5 dX6_plansOfNow_77 (mc_X6_planGoes ht hA (p := 0) (by rw [hnl]; omega) hkl.h4 hkl.h48) (mW_mo hA) (Nat.le_of_eq (Nat.zero_add _)) (Nat.le_of_eq (Nat.zero_add _)) (fun h_77 e_77 => ?_)
          subst e_77
          refine k_goto (tgt := 0) dX6_plansOfNow_80 (by decide) ?_
          rw [if_neg (by rw [hno]; decide)] at hq
          rw [← hq]
          exact ih _ _ _ hp.1 hp.2 (hT.trans hst) (hI.trans mW78.why)
        · refine k_al0 dX6_plansOfNow_45 ?_
          refine m_g0 hA fgX6_7_5 dX6_plansOfNow_46 ?_
          refine k_iconst (v := 5) dX6_plansOfNow_49 rfl ?_
          refine k_dup2 dX6_plansOfNow_50 ?_
          refine m_ldn hA dX6_plansOfNow_51 (⟨rfl, by decide⟩ : ixI _ 5) (by decide) ?_
          refine k_iconst (v := 1) dX6_plansOfNow_52 rfl ?_
          refine k_iadd dX6_plansOfNow_53 ?_
          refine m_stn hA dX6_plansOfNow_54 (⟨rfl, by decide⟩ : ixI _ 5) (by decide) ?_
          have hsm : (s_refL R1 b c).isSome = true := bI_n0.mp c_42
          have hkm := hR.missed (v := R1 5 + 1)
          have hnm : nP (upd R1 5 (R1 5 + 1)) = n + 1 := by rw [nP_of (R := R1) (upd_n (by decide)), hn]
          refine k_goto (tgt := 75) dX6_plansOfNow_55 (by decide) ?_
          refine k_al0 dX6_plansOfNow_75 ?_
          refine k_iconst (v := 0) dX6_plansOfNow_76 rfl ?_
          refine k_cVV1 cvX6_187_5 dX6_plansOfNow_77 (mc_X6_planGoes ht hA (p := 0) (by rw [hnm]; omega) hkm.h4 hkm.h48) (mW_mo hA) (Nat.le_of_eq (Nat.zero_add _)) (Nat.le_of_eq (Nat.zero_add _)) (fun h_77 e_77 => ?_)
          subst e_77
          refine k_goto (tgt := 0) dX6_plansOfNow_80 (by decide) ?_
          rw [if_pos hsm] at hq
          rw [← hq]
          exact ih _ _ _ hp.1 hp.2 (hT.trans hst) (hI.trans mW78.why)
  exact loop (nP R) R I none hR rfl rfl mW78.rfl'
