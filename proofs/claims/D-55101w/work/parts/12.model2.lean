/-! THE MODEL: contracts of its methods, 2 (printed by tools/mk_model2.py) -/
set_option maxRecDepth 100000
theorem cvX6_87_5 : CVs "TissueBalloonsModel" 87 5 yX6_begins kX6_begins 0 := ⟨⟨TX6, 21, rfl⟩, q3165, q3167, qs31, q100, q3168, ⟨by decide, by decide⟩, rfl⟩
theorem csX6_90 : CSs "TissueBalloonsModel" 90 yX6_isLayer kX6_isLayer 1 := ⟨q3172, q3173, q100, q3174, ⟨by decide, by decide⟩, rfl⟩
theorem csX6_94 : CSs "TissueBalloonsModel" 94 yX6_isDrift kX6_isDrift 1 := ⟨q3182, q3183, q100, q3184, ⟨by decide, by decide⟩, rfl⟩
theorem cvX6_97_5 : CVs "TissueBalloonsModel" 97 5 yX6_sets kX6_sets 2 := ⟨⟨TX6, 21, rfl⟩, q3185, q3187, qs33, q100, q3188, ⟨by decide, by decide⟩, rfl⟩
theorem cvX6_101_5 : CVs "TissueBalloonsModel" 101 5 yX6_keeps kX6_keeps 1 := ⟨⟨TX6, 21, rfl⟩, q3189, q3191, qs34, q100, q3192, ⟨by decide, by decide⟩, rfl⟩
/-- but for these, the model's fields and arrays stay -/
def mFr (I : Nat → Int32) (N : Nat → Nat → Int32) (I' : Nat → Int32) (N' : Nat → Nat → Int32) : Prop :=
  (∀ k, k ≠ 5 → k ≠ 6 → k ≠ 7 → k ≠ 8 → k ≠ 9 → k ≠ 10 → k ≠ 17 → k ≠ 18 → k ≠ 20 → I' k = I k) ∧ ∀ k, k ≠ 1 → k ≠ 2 → k ≠ 4 → k ≠ 13 → k ≠ 14 → k ≠ 15 → N' k = N k
/-- the row B has been kept -/
def mPu (I : Nat → Int32) (N : Nat → Nat → Int32) (B : Nat → Int32) (I' : Nat → Int32) (N' : Nat → Nat → Int32) : Prop := ∃ (c c' : Nat), I 6 = nI c ∧ I' 6 = nI (c' + 1) ∧
  ((c < 8 ∧ c' = c ∧ ∀ i, i < c → ∀ j, j < 222 → N' 4 (222 * i + j) = N 4 (222 * i + j)) ∨ (c = 8 ∧ c' = 7 ∧ ∀ i, i < 7 → ∀ j, j < 222 → N' 4 (222 * i + j) = N 4 (222 * (i + 1) + j))) ∧ ∀ j, j < 222 → N' 4 (222 * c' + j) = B j
def mOut (o : Oc) (I : Nat → Int32) (R : Row) (N : Nat → Nat → Int32) (I' : Nat → Int32) (N' : Nat → Nat → Int32) : Prop :=
  I' 5 = o.1 ∧ mFr I N I' N' ∧ (match o.2.2.2 with | some w => I' 9 = w.1 ∧ I' 10 = w.2 | none => I' 9 = I 9 ∧ I' 10 = I 10) ∧ (if o.1 = 0 then mPu I N R I' N' else I' 6 = I 6 ∧ N' 4 = N 4)
abbrev mPost (o : Oc) (h : hp) (A : Nat → Nat) (I : Nat → Int32) (R : Row) (N : Nat → Nat → Int32) : pT := pI fun v h' => v = o.2.1 ∧ ∃ I' N', mOut o I R N I' N' ∧ h' = mW h A I' o.2.2.1 N'
abbrev mQry (q : Qa) (h : hp) (A : Nat → Nat) (I : Nat → Int32) (R : Row) (N : Nat → Nat → Int32) : pT := pI fun v h' => v = q.2 ∧ h' = mW h A (uI I 5 q.1) R N
theorem mFr_bf {I : Nat → Int32} {N : Nat → Nat → Int32} {R : Row} {I' : Nat → Int32} (h : ∀ k, k ≠ 5 → k ≠ 6 → k ≠ 7 → k ≠ 8 → k ≠ 9 → k ≠ 10 → k ≠ 17 → k ≠ 18 → k ≠ 20 → I' k = I k) : mFr I N I' (mBf R N) :=
  ⟨h, fun k h1 _ _ _ _ _ => mBf_n h1⟩
/-- the three ends of a call that changes -/
theorem mOut_no {t : Int32} {I I' : Nat → Int32} {R : Row} {N : Nat → Nat → Int32} (ht : t ≠ 0) (h5 : I' 5 = t) (h : ∀ k, k ≠ 5 → k ≠ 7 → k ≠ 8 → k ≠ 17 → k ≠ 18 → k ≠ 20 → I' k = I k) : mOut (oNo t R) I R N I' (mBf R N) := by
  refine ⟨h5, mFr_bf fun k h1 h2 h3 h4 _ _ h7 h8 h9 => h k h1 h3 h4 h7 h8 h9, ⟨h 9 (by decide) (by decide) (by decide) (by decide) (by decide) (by decide), h 10 (by decide) (by decide) (by decide) (by decide) (by decide) (by decide)⟩, ?_⟩
  rw [if_neg (show ¬ (oNo t R).1 = 0 from ht)]
  exact ⟨h 6 (by decide) (by decide) (by decide) (by decide) (by decide) (by decide), mBf_n (by decide)⟩
theorem mOut_rf {t w d : Int32} {I I' : Nat → Int32} {R : Row} {N : Nat → Nat → Int32} (ht : t ≠ 0) (h5 : I' 5 = t) (h9 : I' 9 = w) (h10 : I' 10 = d) (h : ∀ k, k ≠ 5 → k ≠ 7 → k ≠ 8 → k ≠ 9 → k ≠ 10 → k ≠ 17 → k ≠ 18 → k ≠ 20 → I' k = I k) : mOut (oRf t w d R) I R N I' (mBf R N) := by
  refine ⟨h5, mFr_bf fun k h1 h2 h3 h4 h5 h6 h7 h8 h9 => h k h1 h3 h4 h5 h6 h7 h8 h9, ⟨h9, h10⟩, ?_⟩
  rw [if_neg (show ¬ (oRf t w d R).1 = 0 from ht)]
  exact ⟨h 6 (by decide) (by decide) (by decide) (by decide) (by decide) (by decide) (by decide) (by decide), mBf_n (by decide)⟩
theorem mOut_ok {v : Int32} {I I1 I' : Nat → Int32} {R R' : Row} {N N' : Nat → Nat → Int32} (hk : mKp I1 (mBf R N) (mBf R N 1) I' N') (h5 : I1 5 = 0) (h : ∀ k, k ≠ 5 → k ≠ 7 → k ≠ 8 → k ≠ 17 → k ≠ 18 → k ≠ 20 → I1 k = I k) : mOut (oOk v R') I R N I' N' := by
  obtain ⟨c, c', F, h6, rfl, rfl, hs, hl⟩ := hk
  have e : ∀ k, k ≠ 6 → uI I1 6 (nI (c' + 1)) k = I1 k := fun k hk => by simp [uI, hk]
  have e4 : mBf R N 4 = N 4 := mBf_n (by decide)
  refine ⟨by rw [e 5 (by decide)]; exact h5, ⟨fun k h1 h2 h3 h4 _ _ h7 h8 h9 => by rw [e k h2]; exact h k h1 h3 h4 h7 h8 h9, fun k h1 _ h4 _ _ _ => by rw [uA_ne h4]; exact mBf_n h1⟩, ⟨by rw [e 9 (by decide)]; exact h 9 (by decide) (by decide) (by decide) (by decide) (by decide) (by decide), by rw [e 10 (by decide)]; exact h 10 (by decide) (by decide) (by decide) (by decide) (by decide) (by decide)⟩, ?_⟩
  rw [if_pos (show (oOk v R').1 = 0 from rfl)]
  refine ⟨c, c', by rw [← h 6 (by decide) (by decide) (by decide) (by decide) (by decide) (by decide)]; exact h6, by simp [uI], ?_, fun j hj => by rw [uA_at, hl j hj, mBf_1 hj]⟩
  rw [uA_at]
  rw [e4] at hs
  exact hs
theorem uI_s {f : Nat → Int32} {k : Nat} {v : Int32} : uI f k v k = v := by simp [uI]
theorem uI_n {f : Nat → Int32} {k j : Nat} {v : Int32} (h : j ≠ k) : uI f k v j = f j := by simp [uI, h]
theorem mc_X6_sets {l : Launch} (ht : l.stackTraces = false) {g : gT} {h : hp} {A : Nat → Nat} (hA : mOK A) {I R : Nat → Int32} {N : Nat → Nat → Int32} (i : Nat) (hi : i < 4) (d : Int32) : MM l g yX6_sets kX6_sets [.ref (A 21), .int (nI i), .int d] (mW h A I R N) (pI fun v_ h' => v_ = R (8 + i) ∧ h' = mW h A (I) (upd R (8 + i) d) (N)) (noX) (0) (0) := by
  refine MM.of (by decide) rfl rfl rfl (List.forall_mem_cons.mpr ⟨rfl, List.forall_mem_cons.mpr ⟨rfl, List.forall_mem_cons.mpr ⟨rfl, fun _ h => absurd h List.not_mem_nil⟩⟩⟩) (Nat.le_of_ble_eq_true rfl) ht fun X => ?_
  show Wk _ _ _ _ _ _ _ _ _ [some (.ref (A 21)), some (.int (nI i)), some (.int d), none] _ _
  refine k_al0 dX6_sets_0 ?_
  refine m_g0 hA fgX6_7_5 dX6_sets_1 ?_
  refine k_bipush (v := 8) dX6_sets_4 rfl ?_
  refine k_il1 dX6_sets_6 ?_
  refine k_iadd dX6_sets_7 ?_
  refine Wk.top (v' := .int (nI (8 + i))) (congrArg Value.int (nI_add 8 i)) ?_
  refine m_ldn hA dX6_sets_8 (ixI_n (by omega)) (show 8 + i < 222 by omega) ?_
  refine k_is3 dX6_sets_9 (Nat.le_of_ble_eq_true rfl) ?_
  refine k_al0 dX6_sets_10 ?_
  refine m_g0 hA fgX6_7_5 dX6_sets_11 ?_
  refine k_bipush (v := 8) dX6_sets_14 rfl ?_
  refine k_il1 dX6_sets_16 ?_
  refine k_iadd dX6_sets_17 ?_
  refine Wk.top (v' := .int (nI (8 + i))) (congrArg Value.int (nI_add 8 i)) ?_
  refine k_il2 dX6_sets_18 ?_
  refine m_stn hA dX6_sets_19 (ixI_n (by omega)) (show 8 + i < 222 by omega) ?_
  refine k_il3 dX6_sets_20 ?_
  exact k_iret dX6_sets_21 rfl rfl ⟨_, rfl, rfl, rfl⟩
theorem mc_X6_wind {l : Launch} (ht : l.stackTraces = false) {g : gT} {h : hp} {A : Nat → Nat} (hA : mOK A) {I R : Nat → Int32} {N : Nat → Nat → Int32} (ly dr : Int32) {c : Nat} (hc : I 6 = nI c) (hc8 : c ≤ 8) : MM l g yX6_wind kX6_wind [.ref (A 21), .int ly, .int dr] (mW h A I R N) (mPost (o_wind R ly dr) h A I R N) (noX) (0) (0) := by
  refine MM.of (by decide) rfl rfl rfl (List.forall_mem_cons.mpr ⟨rfl, List.forall_mem_cons.mpr ⟨rfl, List.forall_mem_cons.mpr ⟨rfl, fun _ h => absurd h List.not_mem_nil⟩⟩⟩) (Nat.le_of_ble_eq_true rfl) ht fun X => ?_
  show Wk _ _ _ _ _ _ _ _ _ [some (.ref (A 21)), some (.int ly), some (.int dr)] _ _
  refine Wk.gen fun PP hPP => ?_
  refine k_al0 dX6_wind_0 ?_
  refine k_cVV0 cvX6_87_5 dX6_wind_1 (mc_X6_begins ht hA) (mW_mo hA) (Nat.le_of_eq (Nat.zero_add _)) (Nat.le_of_eq (Nat.zero_add _)) (fun h_1 e_1 => ?_)
  subst e_1
  refine k_il1 dX6_wind_4 ?_
  refine k_cSI1 csX6_90 dX6_wind_5 (mc_X6_isLayer ht _) (Nat.le_of_eq (Nat.zero_add _)) (Nat.le_of_eq (Nat.zero_add _)) (fun r_5 h_5 e_5 => ?_)
  obtain ⟨rfl, rfl⟩ := e_5
  refine k_if_ne (tgt := 17) dX6_wind_8 (by decide) (fun c_8 => ?_) (fun c_8 => ?_)
  · have hly : inB ly 0 3 = true := bI_n0.mp c_8
    obtain ⟨i, hi, rfl⟩ := inB_nI (n := 3) (by decide) hly
    refine k_il2 dX6_wind_17 ?_
    refine k_cSI1 csX6_94 dX6_wind_18 (mc_X6_isDrift ht _) (Nat.le_of_eq (Nat.zero_add _)) (Nat.le_of_eq (Nat.zero_add _)) (fun r_18 h_18 e_18 => ?_)
    obtain ⟨rfl, rfl⟩ := e_18
    refine k_if_eq (tgt := 37) dX6_wind_21 (by decide) (fun c_21 => ?_) (fun c_21 => ?_)
    · refine k_al0 dX6_wind_37 ?_
      refine k_iconst (v := 2) dX6_wind_38 rfl ?_
      refine k_cVI1 cvX6_75_5 dX6_wind_39 (mc_X6_no ht hA _) (mW_mo hA) (Nat.le_of_eq (Nat.zero_add _)) (Nat.le_of_eq (Nat.zero_add _)) (fun r_39 h_39 e_39 => ?_)
      obtain ⟨rfl, rfl⟩ := e_39
      exact k_iret dX6_wind_42 rfl rfl (by rw [hPP, (show o_wind R (nI i) dr = oNo 2 R by unfold o_wind; rw [if_neg (by simp [hly]), if_pos (bI_0.mp c_21)])]; exact ⟨_, rfl, rfl, _, _, mOut_no (by decide) (by simp [uI]) (fun k h5 h7 h8 _ _ _ => by simp [uI, h5, h7, h8]), rfl⟩)
    · have hdr : inB dr (-3) 3 = true := bI_n0.mp c_21
      refine k_al0 dX6_wind_24 ?_
      refine k_al0 dX6_wind_25 ?_
      refine k_il1 dX6_wind_26 ?_
      refine k_il2 dX6_wind_27 ?_
      refine k_cVI2 cvX6_97_5 dX6_wind_28 (mc_X6_sets ht hA i (by omega) _) (mW_mo hA) (Nat.le_of_eq (Nat.zero_add _)) (Nat.le_of_eq (Nat.zero_add _)) (fun r_28 h_28 e_28 => ?_)
      obtain ⟨rfl, rfl⟩ := e_28
      refine k_cVI1 cvX6_101_5 dX6_wind_31 (mc_X6_keeps ht hA _ (c := c) (by simp [uI]; exact hc) hc8) (mW_mo hA) (Nat.le_of_eq (Nat.zero_add _)) (Nat.le_of_eq (Nat.zero_add _)) (fun r_31 h_31 e_31 => ?_)
      refine k_goto (tgt := 42) dX6_wind_34 (by decide) ?_
      exact k_iret dX6_wind_42 rfl rfl (by obtain ⟨rfl, I', N', hk, rfl⟩ := e_31; rw [hPP, (show o_wind R (nI i) dr = oOk (R (8 + i)) (upd R (8 + i) dr) by unfold o_wind; rw [if_neg (by simp [hly]), if_neg (by simp [hdr]), nI_clamp (by omega)])]; exact ⟨_, rfl, rfl, I', N', mOut_ok hk (by simp [uI]) (fun k h5 h7 h8 _ _ _ => by simp [uI, h5, h7, h8]), rfl⟩)
  · refine k_al0 dX6_wind_11 ?_
    refine k_iconst (v := 1) dX6_wind_12 rfl ?_
    refine k_cVI1 cvX6_75_5 dX6_wind_13 (mc_X6_no ht hA _) (mW_mo hA) (Nat.le_of_eq (Nat.zero_add _)) (Nat.le_of_eq (Nat.zero_add _)) (fun r_13 h_13 e_13 => ?_)
    obtain ⟨rfl, rfl⟩ := e_13
    exact k_iret dX6_wind_16 rfl rfl (by rw [hPP, (show o_wind R ly dr = oNo 1 R by unfold o_wind; rw [if_pos (bI_0.mp (by simpa using c_8))])]; exact ⟨_, rfl, rfl, _, _, mOut_no (by decide) (by simp [uI]) (fun k h5 h7 h8 _ _ _ => by simp [uI, h5, h7, h8]), rfl⟩)
