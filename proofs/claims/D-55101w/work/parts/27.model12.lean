/-! THE MODEL: contracts of its methods, 12 (printed by tools/mk_model12.py) -/
set_option maxRecDepth 100000
theorem fgX6_57_5 : FGs "TissueBalloonsModel" 57 5 15 := ⟨RX6, TX6, 21, RX6, rfl, by decide, in_X6, Or.inl q3108, Or.inl rfl⟩
theorem cvX6_227_5 : CVs "TissueBalloonsModel" 227 5 yX6_takes kX6_takes 1 := ⟨⟨TX6, 21, rfl⟩, q3449, q3451, qs72, q100, q3452, ⟨by decide, by decide⟩, rfl⟩
theorem cvX6_230_5 : CVs "TissueBalloonsModel" 230 5 yX6_drift kX6_drift 0 := ⟨⟨TX6, 21, rfl⟩, q3453, q3455, qs73, q100, q3456, ⟨by decide, by decide⟩, rfl⟩
theorem fgX6_51_5 : FGs "TissueBalloonsModel" 51 5 13 := ⟨RX6, TX6, 21, RX6, rfl, by decide, in_X6, Or.inl q3106, Or.inl rfl⟩
theorem fgX6_66_5 : FGs "TissueBalloonsModel" 66 5 18 := ⟨RX6, TX6, 21, RX6, rfl, by decide, in_X6, Or.inl q3111, Or.inl rfl⟩
theorem fpX6_66_5 {nm : String} : FPs "TissueBalloonsModel" nm 66 5 18 .int := ⟨RX6, TX6, 21, RX6, tyX6, rfl, by decide, in_X6, tyX6_ok, nmX6, Or.inl rfl, tyX6_ok 18 (by decide), Or.inl ⟨q3111, rfl⟩⟩
theorem fgX6_54_5 : FGs "TissueBalloonsModel" 54 5 14 := ⟨RX6, TX6, 21, RX6, rfl, by decide, in_X6, Or.inl q3107, Or.inl rfl⟩
theorem cvX6_225_5 : CVs "TissueBalloonsModel" 225 5 yX6_number kX6_number 0 := ⟨⟨TX6, 21, rfl⟩, q3445, q3447, qs71, q100, q3448, ⟨by decide, by decide⟩, rfl⟩
/-- of the orders' rows only place k changes -/
def mOrd (k : Nat) (N N' : Nat → Nat → Int32) : Prop := (∀ m, m ≠ 13 → m ≠ 14 → m ≠ 15 → N' m = N m) ∧ ∀ j, j ≠ k → N' 13 j = N 13 j ∧ N' 14 j = N 14 j ∧ N' 15 j = N 15 j
theorem mOrd.rfl' {k : Nat} {N : Nat → Nat → Int32} : mOrd k N N := ⟨fun _ _ _ _ => rfl, fun _ _ => ⟨rfl, rfl, rfl⟩⟩
theorem mOrd.u13 {k : Nat} {N N' : Nat → Nat → Int32} {v : Int32} (h : mOrd k N N') : mOrd k N (uA N' 13 (upd (N' 13) k v)) :=
  ⟨fun m h1 h2 h3 => (uA_ne h1).trans (h.1 m h1 h2 h3), fun j hj => ⟨by rw [uA_at, upd_n hj]; exact (h.2 j hj).1, by rw [uA_ne (by decide)]; exact (h.2 j hj).2.1, by rw [uA_ne (by decide)]; exact (h.2 j hj).2.2⟩⟩
theorem mOrd.u14 {k : Nat} {N N' : Nat → Nat → Int32} {v : Int32} (h : mOrd k N N') : mOrd k N (uA N' 14 (upd (N' 14) k v)) :=
  ⟨fun m h1 h2 h3 => (uA_ne h2).trans (h.1 m h1 h2 h3), fun j hj => ⟨by rw [uA_ne (by decide)]; exact (h.2 j hj).1, by rw [uA_at, upd_n hj]; exact (h.2 j hj).2.1, by rw [uA_ne (by decide)]; exact (h.2 j hj).2.2⟩⟩
theorem mOrd.u15 {k : Nat} {N N' : Nat → Nat → Int32} {v : Int32} (h : mOrd k N N') : mOrd k N (uA N' 15 (upd (N' 15) k v)) :=
  ⟨fun m h1 h2 h3 => (uA_ne h3).trans (h.1 m h1 h2 h3), fun j hj => ⟨by rw [uA_ne (by decide)]; exact (h.2 j hj).1, by rw [uA_ne (by decide)]; exact (h.2 j hj).2.1, by rw [uA_at, upd_n hj]; exact (h.2 j hj).2.2⟩⟩
/-- an order read, or not -/
def mRes (r : Bool × Od × Nat) (k : Nat) (h : hp) (A : Nat → Nat) (I R : Nat → Int32) (N : Nat → Nat → Int32) (h' : hp) : Prop := ∃ N', mOrd k N N' ∧
  ((r.1 = true ∧ N' 13 k = r.2.1.1 ∧ N' 14 k = r.2.1.2.1 ∧ N' 15 k = r.2.1.2.2 ∧ h' = mW h A (uI (pS I r.2.2 false) 18 (nI (k + 1))) R N') ∨ (r.1 = false ∧ h' = mW h A (pS I r.2.2 true) R N'))
theorem p_ord_0 {T : Nat → Int32} {n p : Nat} {c : Int32} (hc : p_nx T n p = c) (h : p_letter c = false) : p_ord T n p = (false, (0, 0, 0), p) := by subst hc; unfold p_ord; rw [if_neg (by rw [h]; decide)]
theorem p_ord_1 {T : Nat → Int32} {n p : Nat} {c : Int32} (hc : p_nx T n p = c) (h : p_letter c = true) (hf : ¬ (p_first T n c (p + 1)).1 = true) : p_ord T n p = (false, (0, 0, 0), (p_first T n c (p + 1)).2.2) := by subst hc; unfold p_ord; rw [if_pos h, if_neg hf]
theorem p_ord_2 {T : Nat → Int32} {n p : Nat} {c : Int32} (hc : p_nx T n p = c) (h : p_letter c = true) (hf : (p_first T n c (p + 1)).1 = true) : p_ord T n p = p_tail T n c (p_first T n c (p + 1)).2.1 (p_first T n c (p + 1)).2.2 := by subst hc; unfold p_ord; rw [if_pos h, if_pos hf]
theorem p_tail_w {T : Nat → Int32} {n p : Nat} {a : Int32} (h : p_nx T n p = 61) : p_tail T n 119 a p = ((p_drift T n (p + 1)).1, (119, a, (p_drift T n (p + 1)).2.1), (p_drift T n (p + 1)).2.2) := by unfold p_tail; rw [if_pos rfl, if_pos h]
theorem p_tail_wN {T : Nat → Int32} {n p : Nat} {a : Int32} (h : ¬ p_nx T n p = 61) : p_tail T n 119 a p = (false, (0, 0, 0), p) := by unfold p_tail; rw [if_pos rfl, if_neg h]
theorem p_tail_l {T : Nat → Int32} {n p : Nat} {a : Int32} (h : p_nx T n p = 64) : p_tail T n 108 a p = ((p_dig T n (p + 1)).1, (108, a, (p_dig T n (p + 1)).2.1), (p_dig T n (p + 1)).2.2) := by unfold p_tail; rw [if_neg (by decide), if_pos rfl, if_pos h]
theorem p_tail_lN {T : Nat → Int32} {n p : Nat} {a : Int32} (h : ¬ p_nx T n p = 64) : p_tail T n 108 a p = (false, (0, 0, 0), p) := by unfold p_tail; rw [if_neg (by decide), if_pos rfl, if_neg h]
theorem p_tail_g {T : Nat → Int32} {n p : Nat} {a : Int32} (h : p_nx T n p = 43) : p_tail T n 103 a p = ((p_dig T n (p + 1)).1, (103, a, (p_dig T n (p + 1)).2.1), (p_dig T n (p + 1)).2.2) := by unfold p_tail; rw [if_neg (by decide), if_neg (by decide), if_pos rfl, if_pos h]
theorem p_tail_gN {T : Nat → Int32} {n p : Nat} {a : Int32} (h : ¬ p_nx T n p = 43) : p_tail T n 103 a p = (false, (0, 0, 0), p) := by unfold p_tail; rw [if_neg (by decide), if_neg (by decide), if_pos rfl, if_neg h]
theorem p_tail_o {T : Nat → Int32} {n p : Nat} {c a : Int32} (h1 : ¬ c = 119) (h2 : ¬ c = 108) (h3 : ¬ c = 103) : p_tail T n c a p = (true, (c, a, 0), p) := by unfold p_tail; rw [if_neg h1, if_neg h2, if_neg h3]
theorem mc_X6_order {l : Launch} (ht : l.stackTraces = false) {g : gT} {h : hp} {A : Nat → Nat} (hA : mOK A) {I R : Nat → Int32} {N : Nat → Nat → Int32} {T : Nat → Int32} (hT : N 12 = T) {n p : Nat} (hf : I 16 = nI n) (hn : n ≤ 60) (hp : p ≤ n) {k : Nat} (hk : I 18 = nI k) (hk32 : k < 32) : MM l g yX6_order kX6_order [.ref (A 21)] (mW h A (pS I p false) R N) (pV fun h' => mRes (p_ord T n p) k h A I R N h') (noX) (0) (0) := by
  refine MM.of (by decide) rfl rfl rfl (List.forall_mem_cons.mpr ⟨rfl, fun _ h => absurd h List.not_mem_nil⟩) (Nat.le_of_ble_eq_true rfl) ht fun X => ?_
  show Wk _ _ _ _ _ _ _ _ _ [some (.ref (A 21)), none, none] _ _
  refine Wk.gen fun PP hPP => ?_
  have wrong : ∀ (N1 : Nat → Nat → Int32) (c : Int32) (q : Nat), q ≤ n → N1 12 = T → mOrd k N N1 → (p_ord T n p).1 = false → (p_ord T n p).2.2 = q → Wk l g X kX6_order PP noX 0 0 79 [some (.ref (A 21)), some (.int (nI k)), some (.int c)] [] (mW h A (pS I q true) R N1) := by
    intro N1 c q hq hT2 hO hr1 hr2
    refine k_al0 dX6_order_79 ?_
    refine m_g15 hA fgX6_57_5 dX6_order_80 ?_
    refine k_il1 dX6_order_83 ?_
    refine k_iconst (v := 0) dX6_order_84 rfl ?_
    refine m_st hA (by decide) (by decide) (by decide) dX6_order_85 (ixI_n (by omega)) (show k < 32 by omega) ?_
    refine k_il2 dX6_order_86 ?_
    refine k_bipush (v := 119) dX6_order_87 rfl ?_
    refine k_icmp_ne (tgt := 108) dX6_order_89 (by decide) (fun c_89 => ?_) (fun c_89 => ?_)
    · refine k_il2 dX6_order_108 ?_
      refine k_bipush (v := 108) dX6_order_109 rfl ?_
      refine k_icmp_ne (tgt := 130) dX6_order_111 (by decide) (fun c_111 => ?_) (fun c_111 => ?_)
      · refine k_il2 dX6_order_130 ?_
        refine k_bipush (v := 103) dX6_order_131 rfl ?_
        refine k_icmp_ne (tgt := 152) dX6_order_133 (by decide) (fun c_133 => ?_) (fun c_133 => ?_)
        · refine k_al0 dX6_order_152 ?_
          refine m_g20 hA fgX6_72_5 dX6_order_153 ?_
          rw [pS_20]
          refine k_if_eq (tgt := 160) dX6_order_156 (by decide) (fun c_156 => absurd c_156 ((show ¬ bI true = 0 by decide))) (fun c_156 => ?_)
          exact k_vret dX6_order_159 rfl (by rw [hPP]; refine ⟨rfl, _, ?_, Or.inr ⟨hr1, by rw [hr2]⟩⟩; repeat (first | exact hO | refine mOrd.u13 ?_ | refine mOrd.u14 ?_ | refine mOrd.u15 ?_))
        · refine k_al0 dX6_order_136 ?_
          refine k_bipush (v := 43) dX6_order_137 rfl ?_
          refine k_cVV1 cvX6_227_5 dX6_order_139 (mc_X6_takesN ht hA _ (T := T) (by exact hT2) (p := q) (w := true) hf hn hq (show ¬ w_nx T n q true = 43 by rw [w_nx_t]; decide)) (mW_mo hA) (Nat.le_of_eq (Nat.zero_add _)) (Nat.le_of_eq (Nat.zero_add _)) (fun h_139 e_139 => ?_)
          subst e_139
          refine k_al0 dX6_order_142 ?_
          refine m_g15 hA fgX6_57_5 dX6_order_143 ?_
          refine k_il1 dX6_order_146 ?_
          refine k_al0 dX6_order_147 ?_
          refine k_cVI0 cvX6_222_5 dX6_order_148 (mc_X6_digitW ht hA (T := T) (by exact hT2) (p := q) hf hn (hq)) (mW_mo hA) (Nat.le_of_eq (Nat.zero_add _)) (Nat.le_of_eq (Nat.zero_add _)) (fun r_148 h_148 e_148 => ?_)
          obtain ⟨rfl, rfl⟩ := e_148
          refine m_st hA (by decide) (by decide) (by decide) dX6_order_151 (ixI_n (by omega)) (show k < 32 by omega) ?_
          refine k_al0 dX6_order_152 ?_
          refine m_g20 hA fgX6_72_5 dX6_order_153 ?_
          rw [pS_20]
          refine k_if_eq (tgt := 160) dX6_order_156 (by decide) (fun c_156 => absurd c_156 ((show ¬ bI true = 0 by decide))) (fun c_156 => ?_)
          exact k_vret dX6_order_159 rfl (by rw [hPP]; refine ⟨rfl, _, ?_, Or.inr ⟨hr1, by rw [hr2]⟩⟩; repeat (first | exact hO | refine mOrd.u13 ?_ | refine mOrd.u14 ?_ | refine mOrd.u15 ?_))
      · refine k_al0 dX6_order_114 ?_
        refine k_bipush (v := 64) dX6_order_115 rfl ?_
        refine k_cVV1 cvX6_227_5 dX6_order_117 (mc_X6_takesN ht hA _ (T := T) (by exact hT2) (p := q) (w := true) hf hn hq (show ¬ w_nx T n q true = 64 by rw [w_nx_t]; decide)) (mW_mo hA) (Nat.le_of_eq (Nat.zero_add _)) (Nat.le_of_eq (Nat.zero_add _)) (fun h_117 e_117 => ?_)
        subst e_117
        refine k_al0 dX6_order_120 ?_
        refine m_g15 hA fgX6_57_5 dX6_order_121 ?_
        refine k_il1 dX6_order_124 ?_
        refine k_al0 dX6_order_125 ?_
        refine k_cVI0 cvX6_222_5 dX6_order_126 (mc_X6_digitW ht hA (T := T) (by exact hT2) (p := q) hf hn (hq)) (mW_mo hA) (Nat.le_of_eq (Nat.zero_add _)) (Nat.le_of_eq (Nat.zero_add _)) (fun r_126 h_126 e_126 => ?_)
        obtain ⟨rfl, rfl⟩ := e_126
        refine m_st hA (by decide) (by decide) (by decide) dX6_order_129 (ixI_n (by omega)) (show k < 32 by omega) ?_
        refine k_il2 dX6_order_130 ?_
        refine k_bipush (v := 103) dX6_order_131 rfl ?_
        refine k_icmp_ne (tgt := 152) dX6_order_133 (by decide) (fun c_133 => ?_) (fun c_133 => ?_)
        · refine k_al0 dX6_order_152 ?_
          refine m_g20 hA fgX6_72_5 dX6_order_153 ?_
          rw [pS_20]
          refine k_if_eq (tgt := 160) dX6_order_156 (by decide) (fun c_156 => absurd c_156 ((show ¬ bI true = 0 by decide))) (fun c_156 => ?_)
          exact k_vret dX6_order_159 rfl (by rw [hPP]; refine ⟨rfl, _, ?_, Or.inr ⟨hr1, by rw [hr2]⟩⟩; repeat (first | exact hO | refine mOrd.u13 ?_ | refine mOrd.u14 ?_ | refine mOrd.u15 ?_))
        · refine k_al0 dX6_order_136 ?_
          refine k_bipush (v := 43) dX6_order_137 rfl ?_
          refine k_cVV1 cvX6_227_5 dX6_order_139 (mc_X6_takesN ht hA _ (T := T) (by exact hT2) (p := q) (w := true) hf hn hq (show ¬ w_nx T n q true = 43 by rw [w_nx_t]; decide)) (mW_mo hA) (Nat.le_of_eq (Nat.zero_add _)) (Nat.le_of_eq (Nat.zero_add _)) (fun h_139 e_139 => ?_)
          subst e_139
          refine k_al0 dX6_order_142 ?_
          refine m_g15 hA fgX6_57_5 dX6_order_143 ?_
          refine k_il1 dX6_order_146 ?_
          refine k_al0 dX6_order_147 ?_
          refine k_cVI0 cvX6_222_5 dX6_order_148 (mc_X6_digitW ht hA (T := T) (by exact hT2) (p := q) hf hn (hq)) (mW_mo hA) (Nat.le_of_eq (Nat.zero_add _)) (Nat.le_of_eq (Nat.zero_add _)) (fun r_148 h_148 e_148 => ?_)
          obtain ⟨rfl, rfl⟩ := e_148
          refine m_st hA (by decide) (by decide) (by decide) dX6_order_151 (ixI_n (by omega)) (show k < 32 by omega) ?_
          refine k_al0 dX6_order_152 ?_
          refine m_g20 hA fgX6_72_5 dX6_order_153 ?_
          rw [pS_20]
          refine k_if_eq (tgt := 160) dX6_order_156 (by decide) (fun c_156 => absurd c_156 ((show ¬ bI true = 0 by decide))) (fun c_156 => ?_)
          exact k_vret dX6_order_159 rfl (by rw [hPP]; refine ⟨rfl, _, ?_, Or.inr ⟨hr1, by rw [hr2]⟩⟩; repeat (first | exact hO | refine mOrd.u13 ?_ | refine mOrd.u14 ?_ | refine mOrd.u15 ?_))
    · refine k_al0 dX6_order_92 ?_
      refine k_bipush (v := 61) dX6_order_93 rfl ?_
      refine k_cVV1 cvX6_227_5 dX6_order_95 (mc_X6_takesN ht hA _ (T := T) (by exact hT2) (p := q) (w := true) hf hn hq (show ¬ w_nx T n q true = 61 by rw [w_nx_t]; decide)) (mW_mo hA) (Nat.le_of_eq (Nat.zero_add _)) (Nat.le_of_eq (Nat.zero_add _)) (fun h_95 e_95 => ?_)
      subst e_95
      refine k_al0 dX6_order_98 ?_
      refine m_g15 hA fgX6_57_5 dX6_order_99 ?_
      refine k_il1 dX6_order_102 ?_
      refine k_al0 dX6_order_103 ?_
      refine k_cVI0 cvX6_230_5 dX6_order_104 (mc_X6_driftW ht hA (T := T) (by exact hT2) (p := q) hf hn (hq)) (mW_mo hA) (Nat.le_of_eq (Nat.zero_add _)) (Nat.le_of_eq (Nat.zero_add _)) (fun r_104 h_104 e_104 => ?_)
      obtain ⟨rfl, rfl⟩ := e_104
      refine m_st hA (by decide) (by decide) (by decide) dX6_order_107 (ixI_n (by omega)) (show k < 32 by omega) ?_
      refine k_il2 dX6_order_108 ?_
      refine k_bipush (v := 108) dX6_order_109 rfl ?_
      refine k_icmp_ne (tgt := 130) dX6_order_111 (by decide) (fun c_111 => ?_) (fun c_111 => ?_)
      · refine k_il2 dX6_order_130 ?_
        refine k_bipush (v := 103) dX6_order_131 rfl ?_
        refine k_icmp_ne (tgt := 152) dX6_order_133 (by decide) (fun c_133 => ?_) (fun c_133 => ?_)
        · refine k_al0 dX6_order_152 ?_
          refine m_g20 hA fgX6_72_5 dX6_order_153 ?_
          rw [pS_20]
          refine k_if_eq (tgt := 160) dX6_order_156 (by decide) (fun c_156 => absurd c_156 ((show ¬ bI true = 0 by decide))) (fun c_156 => ?_)
          exact k_vret dX6_order_159 rfl (by rw [hPP]; refine ⟨rfl, _, ?_, Or.inr ⟨hr1, by rw [hr2]⟩⟩; repeat (first | exact hO | refine mOrd.u13 ?_ | refine mOrd.u14 ?_ | refine mOrd.u15 ?_))
        · refine k_al0 dX6_order_136 ?_
          refine k_bipush (v := 43) dX6_order_137 rfl ?_
          refine k_cVV1 cvX6_227_5 dX6_order_139 (mc_X6_takesN ht hA _ (T := T) (by exact hT2) (p := q) (w := true) hf hn hq (show ¬ w_nx T n q true = 43 by rw [w_nx_t]; decide)) (mW_mo hA) (Nat.le_of_eq (Nat.zero_add _)) (Nat.le_of_eq (Nat.zero_add _)) (fun h_139 e_139 => ?_)
          subst e_139
          refine k_al0 dX6_order_142 ?_
          refine m_g15 hA fgX6_57_5 dX6_order_143 ?_
          refine k_il1 dX6_order_146 ?_
          refine k_al0 dX6_order_147 ?_
          refine k_cVI0 cvX6_222_5 dX6_order_148 (mc_X6_digitW ht hA (T := T) (by exact hT2) (p := q) hf hn (hq)) (mW_mo hA) (Nat.le_of_eq (Nat.zero_add _)) (Nat.le_of_eq (Nat.zero_add _)) (fun r_148 h_148 e_148 => ?_)
          obtain ⟨rfl, rfl⟩ := e_148
          refine m_st hA (by decide) (by decide) (by decide) dX6_order_151 (ixI_n (by omega)) (show k < 32 by omega) ?_
          refine k_al0 dX6_order_152 ?_
          refine m_g20 hA fgX6_72_5 dX6_order_153 ?_
          rw [pS_20]
          refine k_if_eq (tgt := 160) dX6_order_156 (by decide) (fun c_156 => absurd c_156 ((show ¬ bI true = 0 by decide))) (fun c_156 => ?_)
          exact k_vret dX6_order_159 rfl (by rw [hPP]; refine ⟨rfl, _, ?_, Or.inr ⟨hr1, by rw [hr2]⟩⟩; repeat (first | exact hO | refine mOrd.u13 ?_ | refine mOrd.u14 ?_ | refine mOrd.u15 ?_))
      · refine k_al0 dX6_order_114 ?_
        refine k_bipush (v := 64) dX6_order_115 rfl ?_
        refine k_cVV1 cvX6_227_5 dX6_order_117 (mc_X6_takesN ht hA _ (T := T) (by exact hT2) (p := q) (w := true) hf hn hq (show ¬ w_nx T n q true = 64 by rw [w_nx_t]; decide)) (mW_mo hA) (Nat.le_of_eq (Nat.zero_add _)) (Nat.le_of_eq (Nat.zero_add _)) (fun h_117 e_117 => ?_)
        subst e_117
        refine k_al0 dX6_order_120 ?_
        refine m_g15 hA fgX6_57_5 dX6_order_121 ?_
        refine k_il1 dX6_order_124 ?_
        refine k_al0 dX6_order_125 ?_
        refine k_cVI0 cvX6_222_5 dX6_order_126 (mc_X6_digitW ht hA (T := T) (by exact hT2) (p := q) hf hn (hq)) (mW_mo hA) (Nat.le_of_eq (Nat.zero_add _)) (Nat.le_of_eq (Nat.zero_add _)) (fun r_126 h_126 e_126 => ?_)
        obtain ⟨rfl, rfl⟩ := e_126
        refine m_st hA (by decide) (by decide) (by decide) dX6_order_129 (ixI_n (by omega)) (show k < 32 by omega) ?_
        refine k_il2 dX6_order_130 ?_
        refine k_bipush (v := 103) dX6_order_131 rfl ?_
        refine k_icmp_ne (tgt := 152) dX6_order_133 (by decide) (fun c_133 => ?_) (fun c_133 => ?_)
        · refine k_al0 dX6_order_152 ?_
          refine m_g20 hA fgX6_72_5 dX6_order_153 ?_
          rw [pS_20]
          refine k_if_eq (tgt := 160) dX6_order_156 (by decide) (fun c_156 => absurd c_156 ((show ¬ bI true = 0 by decide))) (fun c_156 => ?_)
          exact k_vret dX6_order_159 rfl (by rw [hPP]; refine ⟨rfl, _, ?_, Or.inr ⟨hr1, by rw [hr2]⟩⟩; repeat (first | exact hO | refine mOrd.u13 ?_ | refine mOrd.u14 ?_ | refine mOrd.u15 ?_))
        · refine k_al0 dX6_order_136 ?_
          refine k_bipush (v := 43) dX6_order_137 rfl ?_
          refine k_cVV1 cvX6_227_5 dX6_order_139 (mc_X6_takesN ht hA _ (T := T) (by exact hT2) (p := q) (w := true) hf hn hq (show ¬ w_nx T n q true = 43 by rw [w_nx_t]; decide)) (mW_mo hA) (Nat.le_of_eq (Nat.zero_add _)) (Nat.le_of_eq (Nat.zero_add _)) (fun h_139 e_139 => ?_)
          subst e_139
          refine k_al0 dX6_order_142 ?_
          refine m_g15 hA fgX6_57_5 dX6_order_143 ?_
          refine k_il1 dX6_order_146 ?_
          refine k_al0 dX6_order_147 ?_
          refine k_cVI0 cvX6_222_5 dX6_order_148 (mc_X6_digitW ht hA (T := T) (by exact hT2) (p := q) hf hn (hq)) (mW_mo hA) (Nat.le_of_eq (Nat.zero_add _)) (Nat.le_of_eq (Nat.zero_add _)) (fun r_148 h_148 e_148 => ?_)
          obtain ⟨rfl, rfl⟩ := e_148
          refine m_st hA (by decide) (by decide) (by decide) dX6_order_151 (ixI_n (by omega)) (show k < 32 by omega) ?_
          refine k_al0 dX6_order_152 ?_
          refine m_g20 hA fgX6_72_5 dX6_order_153 ?_
          rw [pS_20]
          refine k_if_eq (tgt := 160) dX6_order_156 (by decide) (fun c_156 => absurd c_156 ((show ¬ bI true = 0 by decide))) (fun c_156 => ?_)
          exact k_vret dX6_order_159 rfl (by rw [hPP]; refine ⟨rfl, _, ?_, Or.inr ⟨hr1, by rw [hr2]⟩⟩; repeat (first | exact hO | refine mOrd.u13 ?_ | refine mOrd.u14 ?_ | refine mOrd.u15 ?_))
  have right119 : ∀ (N1 : Nat → Nat → Int32) (a : Int32) (q : Nat), q ≤ n → N1 12 = T → N1 14 k = a → mOrd k N N1 → p_ord T n p = p_tail T n 119 a q → Wk l g X kX6_order PP noX 0 0 79 [some (.ref (A 21)), some (.int (nI k)), some (.int 119)] [] (mW h A (pS I q false) R N1) := by
    intro N1 a q hq hT2 ha hO hr
    by_cases hm : p_nx T n q = 61
    · have hq1 : q + 1 ≤ n := p_nx_lt (by rw [hm]; decide)
      refine k_al0 dX6_order_79 ?_
      refine m_g15 hA fgX6_57_5 dX6_order_80 ?_
      refine k_il1 dX6_order_83 ?_
      refine k_iconst (v := 0) dX6_order_84 rfl ?_
      refine m_st hA (by decide) (by decide) (by decide) dX6_order_85 (ixI_n (by omega)) (show k < 32 by omega) ?_
      refine k_il2 dX6_order_86 ?_
      refine k_bipush (v := 119) dX6_order_87 rfl ?_
      refine k_icmp_ne (tgt := 108) dX6_order_89 (by decide) (fun c_89 => absurd rfl c_89) (fun c_89 => ?_)
      refine k_al0 dX6_order_92 ?_
      refine k_bipush (v := 61) dX6_order_93 rfl ?_
      refine k_cVV1 cvX6_227_5 dX6_order_95 (mc_X6_takesY ht hA _ (T := T) (by exact hT2) (p := q) hf hn hq hm) (mW_mo hA) (Nat.le_of_eq (Nat.zero_add _)) (Nat.le_of_eq (Nat.zero_add _)) (fun h_95 e_95 => ?_)
      subst e_95
      refine k_al0 dX6_order_98 ?_
      refine m_g15 hA fgX6_57_5 dX6_order_99 ?_
      refine k_il1 dX6_order_102 ?_
      refine k_al0 dX6_order_103 ?_
      refine k_cVI0 cvX6_230_5 dX6_order_104 (mc_X6_drift ht hA (T := T) (by exact hT2) (p := q + 1) hf hn (hq1)) (mW_mo hA) (Nat.le_of_eq (Nat.zero_add _)) (Nat.le_of_eq (Nat.zero_add _)) (fun r_104 h_104 e_104 => ?_)
      obtain ⟨rfl, rfl⟩ := e_104
      refine m_st hA (by decide) (by decide) (by decide) dX6_order_107 (ixI_n (by omega)) (show k < 32 by omega) ?_
      refine k_il2 dX6_order_108 ?_
      refine k_bipush (v := 108) dX6_order_109 rfl ?_
      refine k_icmp_ne (tgt := 130) dX6_order_111 (by decide) (fun c_111 => ?_) (fun c_111 => absurd c_111 (by decide))
      refine k_il2 dX6_order_130 ?_
      refine k_bipush (v := 103) dX6_order_131 rfl ?_
      refine k_icmp_ne (tgt := 152) dX6_order_133 (by decide) (fun c_133 => ?_) (fun c_133 => absurd c_133 (by decide))
      refine k_al0 dX6_order_152 ?_
      refine m_g20 hA fgX6_72_5 dX6_order_153 ?_
      rw [pS_20]
      refine k_if_eq (tgt := 160) dX6_order_156 (by decide) (fun c_156 => ?_) (fun c_156 => ?_)
      · refine k_al0 dX6_order_160 ?_
        refine m_g13 hA fgX6_51_5 dX6_order_161 ?_
        refine k_il1 dX6_order_164 ?_
        refine k_il2 dX6_order_165 ?_
        refine m_st hA (by decide) (by decide) (by decide) dX6_order_166 (ixI_n (by omega)) (show k < 32 by omega) ?_
        refine k_al0 dX6_order_167 ?_
        refine k_dup dX6_order_168 ?_
        refine m_g18 hA fgX6_66_5 dX6_order_169 ?_
        rw [pS_n (by decide) (by decide), hk]
        refine k_iconst (v := 1) dX6_order_172 rfl ?_
        refine k_iadd dX6_order_173 ?_
        refine m_p18 hA fpX6_66_5 dX6_order_174 ?_
        rw [nI_1]
        exact k_vret dX6_order_177 rfl (by (have hok : (p_drift T n (q + 1)).1 = true := (by simpa [bI] using c_156)); rw [hPP]; refine ⟨rfl, ?N_119, ?o_119, Or.inl ⟨?a_119, ?b_119, ?c_119, ?d_119, ?e_119⟩⟩; (case e_119 => rw [hr, p_tail_w hm]; simp only; rw [hok]; rfl); (case a_119 => rw [hr, p_tail_w hm]; exact hok); (case b_119 => rw [hr, p_tail_w hm, uA_at, upd_s]); (case c_119 => rw [hr, p_tail_w hm, uA_ne (by decide), uA_ne (by decide), uA_ne (by decide)]; exact ha); (case d_119 => rw [hr, p_tail_w hm, uA_ne (by decide), uA_at, upd_s]); repeat (first | exact hO | refine mOrd.u13 ?_ | refine mOrd.u14 ?_ | refine mOrd.u15 ?_))
      · exact k_vret dX6_order_159 rfl (by rw [hPP]; refine ⟨rfl, _, ?_, Or.inr ⟨by rw [hr, p_tail_w hm]; simpa [bI] using c_156, by rw [hr, p_tail_w hm]; simp only; rw [show (p_drift T n (q + 1)).1 = false by simpa [bI] using c_156]; rfl⟩⟩; repeat (first | exact hO | refine mOrd.u13 ?_ | refine mOrd.u14 ?_ | refine mOrd.u15 ?_))
    · skip
      refine k_al0 dX6_order_79 ?_
      refine m_g15 hA fgX6_57_5 dX6_order_80 ?_
      refine k_il1 dX6_order_83 ?_
      refine k_iconst (v := 0) dX6_order_84 rfl ?_
      refine m_st hA (by decide) (by decide) (by decide) dX6_order_85 (ixI_n (by omega)) (show k < 32 by omega) ?_
      refine k_il2 dX6_order_86 ?_
      refine k_bipush (v := 119) dX6_order_87 rfl ?_
      refine k_icmp_ne (tgt := 108) dX6_order_89 (by decide) (fun c_89 => absurd rfl c_89) (fun c_89 => ?_)
      refine k_al0 dX6_order_92 ?_
      refine k_bipush (v := 61) dX6_order_93 rfl ?_
      refine k_cVV1 cvX6_227_5 dX6_order_95 (mc_X6_takesN ht hA _ (T := T) (by exact hT2) (p := q) (w := false) hf hn hq hm) (mW_mo hA) (Nat.le_of_eq (Nat.zero_add _)) (Nat.le_of_eq (Nat.zero_add _)) (fun h_95 e_95 => ?_)
      subst e_95
      refine k_al0 dX6_order_98 ?_
      refine m_g15 hA fgX6_57_5 dX6_order_99 ?_
      refine k_il1 dX6_order_102 ?_
      refine k_al0 dX6_order_103 ?_
      refine k_cVI0 cvX6_230_5 dX6_order_104 (mc_X6_driftW ht hA (T := T) (by exact hT2) (p := q) hf hn (hq)) (mW_mo hA) (Nat.le_of_eq (Nat.zero_add _)) (Nat.le_of_eq (Nat.zero_add _)) (fun r_104 h_104 e_104 => ?_)
      obtain ⟨rfl, rfl⟩ := e_104
      refine m_st hA (by decide) (by decide) (by decide) dX6_order_107 (ixI_n (by omega)) (show k < 32 by omega) ?_
      refine k_il2 dX6_order_108 ?_
      refine k_bipush (v := 108) dX6_order_109 rfl ?_
      refine k_icmp_ne (tgt := 130) dX6_order_111 (by decide) (fun c_111 => ?_) (fun c_111 => absurd c_111 (by decide))
      refine k_il2 dX6_order_130 ?_
      refine k_bipush (v := 103) dX6_order_131 rfl ?_
      refine k_icmp_ne (tgt := 152) dX6_order_133 (by decide) (fun c_133 => ?_) (fun c_133 => absurd c_133 (by decide))
      refine k_al0 dX6_order_152 ?_
      refine m_g20 hA fgX6_72_5 dX6_order_153 ?_
      rw [pS_20]
      refine k_if_eq (tgt := 160) dX6_order_156 (by decide) (fun c_156 => absurd c_156 ((show ¬ bI true = 0 by decide))) (fun c_156 => ?_)
      exact k_vret dX6_order_159 rfl (by rw [hPP]; refine ⟨rfl, _, ?_, Or.inr ⟨by rw [hr, p_tail_wN hm], by rw [hr, p_tail_wN hm]⟩⟩; repeat (first | exact hO | refine mOrd.u13 ?_ | refine mOrd.u14 ?_ | refine mOrd.u15 ?_))
  have right108 : ∀ (N1 : Nat → Nat → Int32) (a : Int32) (q : Nat), q ≤ n → N1 12 = T → N1 14 k = a → mOrd k N N1 → p_ord T n p = p_tail T n 108 a q → Wk l g X kX6_order PP noX 0 0 79 [some (.ref (A 21)), some (.int (nI k)), some (.int 108)] [] (mW h A (pS I q false) R N1) := by
    intro N1 a q hq hT2 ha hO hr
    by_cases hm : p_nx T n q = 64
    · have hq1 : q + 1 ≤ n := p_nx_lt (by rw [hm]; decide)
      refine k_al0 dX6_order_79 ?_
      refine m_g15 hA fgX6_57_5 dX6_order_80 ?_
      refine k_il1 dX6_order_83 ?_
      refine k_iconst (v := 0) dX6_order_84 rfl ?_
      refine m_st hA (by decide) (by decide) (by decide) dX6_order_85 (ixI_n (by omega)) (show k < 32 by omega) ?_
      refine k_il2 dX6_order_86 ?_
      refine k_bipush (v := 119) dX6_order_87 rfl ?_
      refine k_icmp_ne (tgt := 108) dX6_order_89 (by decide) (fun c_89 => ?_) (fun c_89 => absurd c_89 (by decide))
      refine k_il2 dX6_order_108 ?_
      refine k_bipush (v := 108) dX6_order_109 rfl ?_
      refine k_icmp_ne (tgt := 130) dX6_order_111 (by decide) (fun c_111 => absurd rfl c_111) (fun c_111 => ?_)
      refine k_al0 dX6_order_114 ?_
      refine k_bipush (v := 64) dX6_order_115 rfl ?_
      refine k_cVV1 cvX6_227_5 dX6_order_117 (mc_X6_takesY ht hA _ (T := T) (by exact hT2) (p := q) hf hn hq hm) (mW_mo hA) (Nat.le_of_eq (Nat.zero_add _)) (Nat.le_of_eq (Nat.zero_add _)) (fun h_117 e_117 => ?_)
      subst e_117
      refine k_al0 dX6_order_120 ?_
      refine m_g15 hA fgX6_57_5 dX6_order_121 ?_
      refine k_il1 dX6_order_124 ?_
      refine k_al0 dX6_order_125 ?_
      refine k_cVI0 cvX6_222_5 dX6_order_126 (mc_X6_digit ht hA (T := T) (by exact hT2) (p := q + 1) hf hn (hq1)) (mW_mo hA) (Nat.le_of_eq (Nat.zero_add _)) (Nat.le_of_eq (Nat.zero_add _)) (fun r_126 h_126 e_126 => ?_)
      obtain ⟨rfl, rfl⟩ := e_126
      refine m_st hA (by decide) (by decide) (by decide) dX6_order_129 (ixI_n (by omega)) (show k < 32 by omega) ?_
      refine k_il2 dX6_order_130 ?_
      refine k_bipush (v := 103) dX6_order_131 rfl ?_
      refine k_icmp_ne (tgt := 152) dX6_order_133 (by decide) (fun c_133 => ?_) (fun c_133 => absurd c_133 (by decide))
      refine k_al0 dX6_order_152 ?_
      refine m_g20 hA fgX6_72_5 dX6_order_153 ?_
      rw [pS_20]
      refine k_if_eq (tgt := 160) dX6_order_156 (by decide) (fun c_156 => ?_) (fun c_156 => ?_)
      · refine k_al0 dX6_order_160 ?_
        refine m_g13 hA fgX6_51_5 dX6_order_161 ?_
        refine k_il1 dX6_order_164 ?_
        refine k_il2 dX6_order_165 ?_
        refine m_st hA (by decide) (by decide) (by decide) dX6_order_166 (ixI_n (by omega)) (show k < 32 by omega) ?_
        refine k_al0 dX6_order_167 ?_
        refine k_dup dX6_order_168 ?_
        refine m_g18 hA fgX6_66_5 dX6_order_169 ?_
        rw [pS_n (by decide) (by decide), hk]
        refine k_iconst (v := 1) dX6_order_172 rfl ?_
        refine k_iadd dX6_order_173 ?_
        refine m_p18 hA fpX6_66_5 dX6_order_174 ?_
        rw [nI_1]
        exact k_vret dX6_order_177 rfl (by (have hok : (p_dig T n (q + 1)).1 = true := (by simpa [bI] using c_156)); rw [hPP]; refine ⟨rfl, ?N_108, ?o_108, Or.inl ⟨?a_108, ?b_108, ?c_108, ?d_108, ?e_108⟩⟩; (case e_108 => rw [hr, p_tail_l hm]; simp only; rw [hok]; rfl); (case a_108 => rw [hr, p_tail_l hm]; exact hok); (case b_108 => rw [hr, p_tail_l hm, uA_at, upd_s]); (case c_108 => rw [hr, p_tail_l hm, uA_ne (by decide), uA_ne (by decide), uA_ne (by decide)]; exact ha); (case d_108 => rw [hr, p_tail_l hm, uA_ne (by decide), uA_at, upd_s]); repeat (first | exact hO | refine mOrd.u13 ?_ | refine mOrd.u14 ?_ | refine mOrd.u15 ?_))
      · exact k_vret dX6_order_159 rfl (by rw [hPP]; refine ⟨rfl, _, ?_, Or.inr ⟨by rw [hr, p_tail_l hm]; simpa [bI] using c_156, by rw [hr, p_tail_l hm]; simp only; rw [show (p_dig T n (q + 1)).1 = false by simpa [bI] using c_156]; rfl⟩⟩; repeat (first | exact hO | refine mOrd.u13 ?_ | refine mOrd.u14 ?_ | refine mOrd.u15 ?_))
    · skip
      refine k_al0 dX6_order_79 ?_
      refine m_g15 hA fgX6_57_5 dX6_order_80 ?_
      refine k_il1 dX6_order_83 ?_
      refine k_iconst (v := 0) dX6_order_84 rfl ?_
      refine m_st hA (by decide) (by decide) (by decide) dX6_order_85 (ixI_n (by omega)) (show k < 32 by omega) ?_
      refine k_il2 dX6_order_86 ?_
      refine k_bipush (v := 119) dX6_order_87 rfl ?_
      refine k_icmp_ne (tgt := 108) dX6_order_89 (by decide) (fun c_89 => ?_) (fun c_89 => absurd c_89 (by decide))
      refine k_il2 dX6_order_108 ?_
      refine k_bipush (v := 108) dX6_order_109 rfl ?_
      refine k_icmp_ne (tgt := 130) dX6_order_111 (by decide) (fun c_111 => absurd rfl c_111) (fun c_111 => ?_)
      refine k_al0 dX6_order_114 ?_
      refine k_bipush (v := 64) dX6_order_115 rfl ?_
      refine k_cVV1 cvX6_227_5 dX6_order_117 (mc_X6_takesN ht hA _ (T := T) (by exact hT2) (p := q) (w := false) hf hn hq hm) (mW_mo hA) (Nat.le_of_eq (Nat.zero_add _)) (Nat.le_of_eq (Nat.zero_add _)) (fun h_117 e_117 => ?_)
      subst e_117
      refine k_al0 dX6_order_120 ?_
      refine m_g15 hA fgX6_57_5 dX6_order_121 ?_
      refine k_il1 dX6_order_124 ?_
      refine k_al0 dX6_order_125 ?_
      refine k_cVI0 cvX6_222_5 dX6_order_126 (mc_X6_digitW ht hA (T := T) (by exact hT2) (p := q) hf hn (hq)) (mW_mo hA) (Nat.le_of_eq (Nat.zero_add _)) (Nat.le_of_eq (Nat.zero_add _)) (fun r_126 h_126 e_126 => ?_)
      obtain ⟨rfl, rfl⟩ := e_126
      refine m_st hA (by decide) (by decide) (by decide) dX6_order_129 (ixI_n (by omega)) (show k < 32 by omega) ?_
      refine k_il2 dX6_order_130 ?_
      refine k_bipush (v := 103) dX6_order_131 rfl ?_
      refine k_icmp_ne (tgt := 152) dX6_order_133 (by decide) (fun c_133 => ?_) (fun c_133 => absurd c_133 (by decide))
      refine k_al0 dX6_order_152 ?_
      refine m_g20 hA fgX6_72_5 dX6_order_153 ?_
      rw [pS_20]
      refine k_if_eq (tgt := 160) dX6_order_156 (by decide) (fun c_156 => absurd c_156 ((show ¬ bI true = 0 by decide))) (fun c_156 => ?_)
      exact k_vret dX6_order_159 rfl (by rw [hPP]; refine ⟨rfl, _, ?_, Or.inr ⟨by rw [hr, p_tail_lN hm], by rw [hr, p_tail_lN hm]⟩⟩; repeat (first | exact hO | refine mOrd.u13 ?_ | refine mOrd.u14 ?_ | refine mOrd.u15 ?_))
  have right103 : ∀ (N1 : Nat → Nat → Int32) (a : Int32) (q : Nat), q ≤ n → N1 12 = T → N1 14 k = a → mOrd k N N1 → p_ord T n p = p_tail T n 103 a q → Wk l g X kX6_order PP noX 0 0 79 [some (.ref (A 21)), some (.int (nI k)), some (.int 103)] [] (mW h A (pS I q false) R N1) := by
    intro N1 a q hq hT2 ha hO hr
    by_cases hm : p_nx T n q = 43
    · have hq1 : q + 1 ≤ n := p_nx_lt (by rw [hm]; decide)
      refine k_al0 dX6_order_79 ?_
      refine m_g15 hA fgX6_57_5 dX6_order_80 ?_
      refine k_il1 dX6_order_83 ?_
      refine k_iconst (v := 0) dX6_order_84 rfl ?_
      refine m_st hA (by decide) (by decide) (by decide) dX6_order_85 (ixI_n (by omega)) (show k < 32 by omega) ?_
      refine k_il2 dX6_order_86 ?_
      refine k_bipush (v := 119) dX6_order_87 rfl ?_
      refine k_icmp_ne (tgt := 108) dX6_order_89 (by decide) (fun c_89 => ?_) (fun c_89 => absurd c_89 (by decide))
      refine k_il2 dX6_order_108 ?_
      refine k_bipush (v := 108) dX6_order_109 rfl ?_
      refine k_icmp_ne (tgt := 130) dX6_order_111 (by decide) (fun c_111 => ?_) (fun c_111 => absurd c_111 (by decide))
      refine k_il2 dX6_order_130 ?_
      refine k_bipush (v := 103) dX6_order_131 rfl ?_
      refine k_icmp_ne (tgt := 152) dX6_order_133 (by decide) (fun c_133 => absurd rfl c_133) (fun c_133 => ?_)
      refine k_al0 dX6_order_136 ?_
      refine k_bipush (v := 43) dX6_order_137 rfl ?_
      refine k_cVV1 cvX6_227_5 dX6_order_139 (mc_X6_takesY ht hA _ (T := T) (by exact hT2) (p := q) hf hn hq hm) (mW_mo hA) (Nat.le_of_eq (Nat.zero_add _)) (Nat.le_of_eq (Nat.zero_add _)) (fun h_139 e_139 => ?_)
      subst e_139
      refine k_al0 dX6_order_142 ?_
      refine m_g15 hA fgX6_57_5 dX6_order_143 ?_
      refine k_il1 dX6_order_146 ?_
      refine k_al0 dX6_order_147 ?_
      refine k_cVI0 cvX6_222_5 dX6_order_148 (mc_X6_digit ht hA (T := T) (by exact hT2) (p := q + 1) hf hn (hq1)) (mW_mo hA) (Nat.le_of_eq (Nat.zero_add _)) (Nat.le_of_eq (Nat.zero_add _)) (fun r_148 h_148 e_148 => ?_)
      obtain ⟨rfl, rfl⟩ := e_148
      refine m_st hA (by decide) (by decide) (by decide) dX6_order_151 (ixI_n (by omega)) (show k < 32 by omega) ?_
      refine k_al0 dX6_order_152 ?_
      refine m_g20 hA fgX6_72_5 dX6_order_153 ?_
      rw [pS_20]
      refine k_if_eq (tgt := 160) dX6_order_156 (by decide) (fun c_156 => ?_) (fun c_156 => ?_)
      · refine k_al0 dX6_order_160 ?_
        refine m_g13 hA fgX6_51_5 dX6_order_161 ?_
        refine k_il1 dX6_order_164 ?_
        refine k_il2 dX6_order_165 ?_
        refine m_st hA (by decide) (by decide) (by decide) dX6_order_166 (ixI_n (by omega)) (show k < 32 by omega) ?_
        refine k_al0 dX6_order_167 ?_
        refine k_dup dX6_order_168 ?_
        refine m_g18 hA fgX6_66_5 dX6_order_169 ?_
        rw [pS_n (by decide) (by decide), hk]
        refine k_iconst (v := 1) dX6_order_172 rfl ?_
        refine k_iadd dX6_order_173 ?_
        refine m_p18 hA fpX6_66_5 dX6_order_174 ?_
        rw [nI_1]
        exact k_vret dX6_order_177 rfl (by (have hok : (p_dig T n (q + 1)).1 = true := (by simpa [bI] using c_156)); rw [hPP]; refine ⟨rfl, ?N_103, ?o_103, Or.inl ⟨?a_103, ?b_103, ?c_103, ?d_103, ?e_103⟩⟩; (case e_103 => rw [hr, p_tail_g hm]; simp only; rw [hok]; rfl); (case a_103 => rw [hr, p_tail_g hm]; exact hok); (case b_103 => rw [hr, p_tail_g hm, uA_at, upd_s]); (case c_103 => rw [hr, p_tail_g hm, uA_ne (by decide), uA_ne (by decide), uA_ne (by decide)]; exact ha); (case d_103 => rw [hr, p_tail_g hm, uA_ne (by decide), uA_at, upd_s]); repeat (first | exact hO | refine mOrd.u13 ?_ | refine mOrd.u14 ?_ | refine mOrd.u15 ?_))
      · exact k_vret dX6_order_159 rfl (by rw [hPP]; refine ⟨rfl, _, ?_, Or.inr ⟨by rw [hr, p_tail_g hm]; simpa [bI] using c_156, by rw [hr, p_tail_g hm]; simp only; rw [show (p_dig T n (q + 1)).1 = false by simpa [bI] using c_156]; rfl⟩⟩; repeat (first | exact hO | refine mOrd.u13 ?_ | refine mOrd.u14 ?_ | refine mOrd.u15 ?_))
    · skip
      refine k_al0 dX6_order_79 ?_
      refine m_g15 hA fgX6_57_5 dX6_order_80 ?_
      refine k_il1 dX6_order_83 ?_
      refine k_iconst (v := 0) dX6_order_84 rfl ?_
      refine m_st hA (by decide) (by decide) (by decide) dX6_order_85 (ixI_n (by omega)) (show k < 32 by omega) ?_
      refine k_il2 dX6_order_86 ?_
      refine k_bipush (v := 119) dX6_order_87 rfl ?_
      refine k_icmp_ne (tgt := 108) dX6_order_89 (by decide) (fun c_89 => ?_) (fun c_89 => absurd c_89 (by decide))
      refine k_il2 dX6_order_108 ?_
      refine k_bipush (v := 108) dX6_order_109 rfl ?_
      refine k_icmp_ne (tgt := 130) dX6_order_111 (by decide) (fun c_111 => ?_) (fun c_111 => absurd c_111 (by decide))
      refine k_il2 dX6_order_130 ?_
      refine k_bipush (v := 103) dX6_order_131 rfl ?_
      refine k_icmp_ne (tgt := 152) dX6_order_133 (by decide) (fun c_133 => absurd rfl c_133) (fun c_133 => ?_)
      refine k_al0 dX6_order_136 ?_
      refine k_bipush (v := 43) dX6_order_137 rfl ?_
      refine k_cVV1 cvX6_227_5 dX6_order_139 (mc_X6_takesN ht hA _ (T := T) (by exact hT2) (p := q) (w := false) hf hn hq hm) (mW_mo hA) (Nat.le_of_eq (Nat.zero_add _)) (Nat.le_of_eq (Nat.zero_add _)) (fun h_139 e_139 => ?_)
      subst e_139
      refine k_al0 dX6_order_142 ?_
      refine m_g15 hA fgX6_57_5 dX6_order_143 ?_
      refine k_il1 dX6_order_146 ?_
      refine k_al0 dX6_order_147 ?_
      refine k_cVI0 cvX6_222_5 dX6_order_148 (mc_X6_digitW ht hA (T := T) (by exact hT2) (p := q) hf hn (hq)) (mW_mo hA) (Nat.le_of_eq (Nat.zero_add _)) (Nat.le_of_eq (Nat.zero_add _)) (fun r_148 h_148 e_148 => ?_)
      obtain ⟨rfl, rfl⟩ := e_148
      refine m_st hA (by decide) (by decide) (by decide) dX6_order_151 (ixI_n (by omega)) (show k < 32 by omega) ?_
      refine k_al0 dX6_order_152 ?_
      refine m_g20 hA fgX6_72_5 dX6_order_153 ?_
      rw [pS_20]
      refine k_if_eq (tgt := 160) dX6_order_156 (by decide) (fun c_156 => absurd c_156 ((show ¬ bI true = 0 by decide))) (fun c_156 => ?_)
      exact k_vret dX6_order_159 rfl (by rw [hPP]; refine ⟨rfl, _, ?_, Or.inr ⟨by rw [hr, p_tail_gN hm], by rw [hr, p_tail_gN hm]⟩⟩; repeat (first | exact hO | refine mOrd.u13 ?_ | refine mOrd.u14 ?_ | refine mOrd.u15 ?_))
  have rightO : ∀ (N1 : Nat → Nat → Int32) (c a : Int32) (q : Nat), ¬ c = 119 → ¬ c = 108 → ¬ c = 103 → N1 14 k = a → mOrd k N N1 → p_ord T n p = p_tail T n c a q → Wk l g X kX6_order PP noX 0 0 79 [some (.ref (A 21)), some (.int (nI k)), some (.int c)] [] (mW h A (pS I q false) R N1) := by
    intro N1 c a q h119 h108 h103 ha hO hr
    refine k_al0 dX6_order_79 ?_
    refine m_g15 hA fgX6_57_5 dX6_order_80 ?_
    refine k_il1 dX6_order_83 ?_
    refine k_iconst (v := 0) dX6_order_84 rfl ?_
    refine m_st hA (by decide) (by decide) (by decide) dX6_order_85 (ixI_n (by omega)) (show k < 32 by omega) ?_
    refine k_il2 dX6_order_86 ?_
    refine k_bipush (v := 119) dX6_order_87 rfl ?_
    refine k_icmp_ne (tgt := 108) dX6_order_89 (by decide) (fun c_89 => ?_) (fun c_89 => absurd c_89 h119)
    refine k_il2 dX6_order_108 ?_
    refine k_bipush (v := 108) dX6_order_109 rfl ?_
    refine k_icmp_ne (tgt := 130) dX6_order_111 (by decide) (fun c_111 => ?_) (fun c_111 => absurd c_111 h108)
    refine k_il2 dX6_order_130 ?_
    refine k_bipush (v := 103) dX6_order_131 rfl ?_
    refine k_icmp_ne (tgt := 152) dX6_order_133 (by decide) (fun c_133 => ?_) (fun c_133 => absurd c_133 h103)
    refine k_al0 dX6_order_152 ?_
    refine m_g20 hA fgX6_72_5 dX6_order_153 ?_
    rw [pS_20]
    refine k_if_eq (tgt := 160) dX6_order_156 (by decide) (fun c_156 => ?_) (fun c_156 => absurd ((show bI false = 0 by decide)) c_156)
    refine k_al0 dX6_order_160 ?_
    refine m_g13 hA fgX6_51_5 dX6_order_161 ?_
    refine k_il1 dX6_order_164 ?_
    refine k_il2 dX6_order_165 ?_
    refine m_st hA (by decide) (by decide) (by decide) dX6_order_166 (ixI_n (by omega)) (show k < 32 by omega) ?_
    refine k_al0 dX6_order_167 ?_
    refine k_dup dX6_order_168 ?_
    refine m_g18 hA fgX6_66_5 dX6_order_169 ?_
    rw [pS_n (by decide) (by decide), hk]
    refine k_iconst (v := 1) dX6_order_172 rfl ?_
    refine k_iadd dX6_order_173 ?_
    refine m_p18 hA fpX6_66_5 dX6_order_174 ?_
    rw [nI_1]
    exact k_vret dX6_order_177 rfl (by rw [hPP]; refine ⟨rfl, ?N, ?o, Or.inl ⟨?a, ?b, ?c, ?d, ?e⟩⟩; (case e => rw [hr, p_tail_o h119 h108 h103]); (case a => rw [hr, p_tail_o h119 h108 h103]); (case b => rw [hr, p_tail_o h119 h108 h103, uA_at, upd_s]); (case c => rw [hr, p_tail_o h119 h108 h103, uA_ne (by decide), uA_ne (by decide)]; exact ha); (case d => rw [hr, p_tail_o h119 h108 h103, uA_ne (by decide), uA_at, upd_s]); repeat (first | exact hO | refine mOrd.u13 ?_ | refine mOrd.u14 ?_ | refine mOrd.u15 ?_))
  have letter : ∀ c : Int32, p_nx T n p = c → p_letter c = true → Wk l g X kX6_order PP noX 0 0 46 [some (.ref (A 21)), some (.int (nI k)), some (.int c)] [] (mW h A (pS I p false) R N) := by
    intro c hc hlet
    have hp1 : p + 1 ≤ n := p_nx_lt (by rw [hc]; exact p_letter_ne hlet)
    by_cases h119 : c = 119
    · subst h119
      refine k_al0 dX6_order_46 ?_
      refine k_dup dX6_order_47 ?_
      refine m_g17 hA fgX6_63_5 dX6_order_48 ?_
      rw [pS_17]
      refine k_iconst (v := 1) dX6_order_51 rfl ?_
      refine k_iadd dX6_order_52 ?_
      refine m_p17 hA fpX6_63_5 dX6_order_53 ?_
      rw [nI_1, pS_p]
      refine k_al0 dX6_order_56 ?_
      refine m_g14 hA fgX6_54_5 dX6_order_57 ?_
      refine k_il1 dX6_order_60 ?_
      refine k_il2 dX6_order_61 ?_
      refine k_bipush (v := 119) dX6_order_62 rfl ?_
      refine k_icmp_ne (tgt := 74) dX6_order_64 (by decide) (fun c_64 => absurd rfl c_64) (fun c_64 => ?_)
      refine k_al0 dX6_order_67 ?_
      refine k_cVI0 cvX6_222_5 dX6_order_68 (mc_X6_digit ht hA (T := T) (by exact hT) (p := p + 1) hf hn hp1) (mW_mo hA) (Nat.le_of_eq (Nat.zero_add _)) (Nat.le_of_eq (Nat.zero_add _)) (fun r_68 h_68 e_68 => ?_)
      obtain ⟨rfl, rfl⟩ := e_68
      refine k_goto (tgt := 78) dX6_order_71 (by decide) ?_
      refine m_st hA (by decide) (by decide) (by decide) dX6_order_78 (ixI_n (by omega)) (show k < 32 by omega) ?_
      have hfe : p_first T n 119 (p + 1) = p_dig T n (p + 1) := by unfold p_first; rw [if_pos rfl]
      have hle := p_first_le (T := T) (n := n) (c := 119) hp1
      by_cases hok : (p_dig T n (p + 1)).1 = true
      · have hr := p_ord_2 hc hlet (by rw [hfe]; exact hok)
        rw [hfe] at hr hle
        rw [hok]
        exact right119 _ _ _ hle.2.1 hT (by rw [uA_at, upd_s]) mOrd.rfl'.u14 hr
      · have hr := p_ord_1 hc hlet (by rw [hfe]; exact hok)
        rw [hfe] at hr hle
        rw [show (p_dig T n (p + 1)).1 = false by simpa using hok]
        exact wrong _ _ _ hle.2.1 hT mOrd.rfl'.u14 (by rw [hr]) (by rw [hr])
    · skip
      refine k_al0 dX6_order_46 ?_
      refine k_dup dX6_order_47 ?_
      refine m_g17 hA fgX6_63_5 dX6_order_48 ?_
      rw [pS_17]
      refine k_iconst (v := 1) dX6_order_51 rfl ?_
      refine k_iadd dX6_order_52 ?_
      refine m_p17 hA fpX6_63_5 dX6_order_53 ?_
      rw [nI_1, pS_p]
      refine k_al0 dX6_order_56 ?_
      refine m_g14 hA fgX6_54_5 dX6_order_57 ?_
      refine k_il1 dX6_order_60 ?_
      refine k_il2 dX6_order_61 ?_
      refine k_bipush (v := 119) dX6_order_62 rfl ?_
      refine k_icmp_ne (tgt := 74) dX6_order_64 (by decide) (fun c_64 => ?_) (fun c_64 => absurd c_64 h119)
      refine k_al0 dX6_order_74 ?_
      refine k_cVI0 cvX6_225_5 dX6_order_75 (mc_X6_number ht hA (T := T) (by exact hT) (p := p + 1) hf hn hp1) (mW_mo hA) (Nat.le_of_eq (Nat.zero_add _)) (Nat.le_of_eq (Nat.zero_add _)) (fun r_75 h_75 e_75 => ?_)
      obtain ⟨rfl, rfl⟩ := e_75
      refine m_st hA (by decide) (by decide) (by decide) dX6_order_78 (ixI_n (by omega)) (show k < 32 by omega) ?_
      have hfe : p_first T n c (p + 1) = p_num T n (p + 1) := by unfold p_first; rw [if_neg h119]
      have hle := p_first_le (T := T) (n := n) (c := c) hp1
      by_cases hok : (p_num T n (p + 1)).1 = true
      · have hr := p_ord_2 hc hlet (by rw [hfe]; exact hok)
        rw [hfe] at hr hle
        rw [hok]
        by_cases h108 : c = 108
        · subst h108; exact right108 _ _ _ hle.2.1 hT (by rw [uA_at, upd_s]) mOrd.rfl'.u14 hr
        · by_cases h103 : c = 103
          · subst h103; exact right103 _ _ _ hle.2.1 hT (by rw [uA_at, upd_s]) mOrd.rfl'.u14 hr
          · exact rightO _ _ _ _ h119 h108 h103 (by rw [uA_at, upd_s]) mOrd.rfl'.u14 hr
      · have hr := p_ord_1 hc hlet (by rw [hfe]; exact hok)
        rw [hfe] at hr hle
        rw [show (p_num T n (p + 1)).1 = false by simpa using hok]
        exact wrong _ _ _ hle.2.1 hT mOrd.rfl'.u14 (by rw [hr]) (by rw [hr])
  refine k_al0 dX6_order_0 ?_
  refine m_g18 hA fgX6_66_5 dX6_order_1 ?_
  rw [pS_n (by decide) (by decide), hk]
  refine k_is1 dX6_order_4 (Nat.le_of_ble_eq_true rfl) ?_
  refine k_al0 dX6_order_5 ?_
  refine k_cVI0 cvX6_219_5 dX6_order_6 (mc_X6_next ht hA (T := T) (by exact hT) (w := false) hf hn hp) (mW_mo hA) (Nat.le_of_eq (Nat.zero_add _)) (Nat.le_of_eq (Nat.zero_add _)) (fun r_6 h_6 e_6 => ?_)
  obtain ⟨rfl, rfl⟩ := e_6
  rw [w_nx_f]
  generalize hc : p_nx T n p = c
  refine k_is2 dX6_order_9 (Nat.le_of_ble_eq_true rfl) ?_
  refine k_il2 dX6_order_10 ?_
  refine k_bipush (v := 119) dX6_order_11 rfl ?_
  refine k_icmp_eq (tgt := 46) dX6_order_13 (by decide) (fun c_13 => ?_) (fun c_13 => ?_)
  · exact letter c hc (by unfold p_letter; exact decide_eq_true (by rw [c_13]; decide))
  · refine k_il2 dX6_order_16 ?_
    refine k_bipush (v := 108) dX6_order_17 rfl ?_
    refine k_icmp_eq (tgt := 46) dX6_order_19 (by decide) (fun c_19 => ?_) (fun c_19 => ?_)
    · exact letter c hc (by unfold p_letter; exact decide_eq_true (by rw [c_19]; decide))
    · refine k_il2 dX6_order_22 ?_
      refine k_bipush (v := 103) dX6_order_23 rfl ?_
      refine k_icmp_eq (tgt := 46) dX6_order_25 (by decide) (fun c_25 => ?_) (fun c_25 => ?_)
      · exact letter c hc (by unfold p_letter; exact decide_eq_true (by rw [c_25]; decide))
      · refine k_il2 dX6_order_28 ?_
        refine k_bipush (v := 111) dX6_order_29 rfl ?_
        refine k_icmp_eq (tgt := 46) dX6_order_31 (by decide) (fun c_31 => ?_) (fun c_31 => ?_)
        · exact letter c hc (by unfold p_letter; exact decide_eq_true (by rw [c_31]; decide))
        · refine k_il2 dX6_order_34 ?_
          refine k_bipush (v := 112) dX6_order_35 rfl ?_
          refine k_icmp_eq (tgt := 46) dX6_order_37 (by decide) (fun c_37 => ?_) (fun c_37 => ?_)
          · exact letter c hc (by unfold p_letter; exact decide_eq_true (by rw [c_37]; decide))
          · refine k_al0 dX6_order_40 ?_
            refine k_iconst (v := 1) dX6_order_41 rfl ?_
            refine m_p20 hA fpX6_72_5 dX6_order_42 (by first | exact Or.inl rfl | exact Or.inr rfl) ?_
            rw [pS_w]
            exact k_vret dX6_order_45 rfl (by (have hr := p_ord_0 hc (by unfold p_letter; exact decide_eq_false (by rintro (e | e | e | e | e); exact c_13 e; exact c_19 e; exact c_25 e; exact c_31 e; exact c_37 e))); rw [hPP]; exact ⟨rfl, _, mOrd.rfl', Or.inr ⟨by rw [hr], by rw [hr]⟩⟩)
