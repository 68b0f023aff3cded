/-! THE MODEL: contracts of its methods, 15 (printed by tools/mk_model15.py) -/
set_option maxRecDepth 100000
theorem fgX6_19_5 : FGs "TissueBalloonsModel" 19 5 3 := ⟨RX6, TX6, 21, RX6, rfl, by decide, in_X6, Or.inl q3096, Or.inl rfl⟩
theorem fpX6_44_5 {nm : String} : FPs "TissueBalloonsModel" nm 44 5 11 .boolean := ⟨RX6, TX6, 21, RX6, tyX6, rfl, by decide, in_X6, tyX6_ok, nmX6, Or.inl rfl, tyX6_ok 11 (by decide), Or.inl ⟨q3104, rfl⟩⟩
theorem fgX6_44_5 : FGs "TissueBalloonsModel" 44 5 11 := ⟨RX6, TX6, 21, RX6, rfl, by decide, in_X6, Or.inl q3104, Or.inl rfl⟩
theorem mc_X6_undo {l : Launch} (ht : l.stackTraces = false) {g : gT} {h : hp} {A : Nat → Nat} (hA : mOK A) {I R : Nat → Int32} {N : Nat → Nat → Int32} {c : Nat} (hc : I 6 = nI c) (hc8 : c ≤ 8) : MM l g yX6_undo kX6_undo [.ref (A 21)] (mW h A I R N) (pI fun v_ h' => (c = 0 ∧ v_ = 0 ∧ h' = mW h A (uI (uI I 5 0) 5 1) R N) ∨ (∃ c1, c = c1 + 1 ∧ v_ = nI c1 ∧ ∃ R', (∀ j, j < 222 → R' j = N 4 (222 * c1 + j)) ∧ h' = mW h A (uI (uI I 5 0) 6 (nI c1)) R' N)) (noX) (0) (0) := by
  refine MM.of (by decide) rfl rfl rfl (List.forall_mem_cons.mpr ⟨rfl, fun _ h => absurd h List.not_mem_nil⟩) (Nat.le_of_ble_eq_true rfl) ht fun X => ?_
  show Wk _ _ _ _ _ _ _ _ _ [some (.ref (A 21))] _ _
  refine Wk.gen fun PP hPP => ?_
  refine k_al0 dX6_undo_0 ?_
  refine k_iconst (v := 0) dX6_undo_1 rfl ?_
  refine m_p5 hA fpX6_25_5 dX6_undo_2 ?_
  refine k_al0 dX6_undo_5 ?_
  refine m_g6 hA fgX6_29_5 dX6_undo_6 ?_
  rw [uI_n (by decide), hc]
  refine k_if_ne (tgt := 18) dX6_undo_9 (by decide) (fun c_9 => ?_) (fun c_9 => ?_)
  · obtain ⟨c1, rfl⟩ : ∃ c1, c = c1 + 1 := ⟨c - 1, by have : c ≠ 0 := (fun e => c_9 (by rw [e]; rfl)); omega⟩
    refine k_al0 dX6_undo_18 ?_
    refine k_dup dX6_undo_19 ?_
    refine m_g6 hA fgX6_29_5 dX6_undo_20 ?_
    rw [uI_n (by decide), hc]
    refine k_iconst (v := 1) dX6_undo_23 rfl ?_
    refine k_isub dX6_undo_24 ?_
    refine Wk.top (v' := .int (nI c1)) (congrArg Value.int (nI_pred c1)) ?_
    refine m_p6 hA fpX6_29_5 dX6_undo_25 ?_
    refine k_al0 dX6_undo_28 ?_
    refine m_g4 hA fgX6_22_5 dX6_undo_29 ?_
    refine k_sipush (v := 222) dX6_undo_32 rfl ?_
    refine k_al0 dX6_undo_35 ?_
    refine m_g6 hA fgX6_29_5 dX6_undo_36 ?_
    rw [uI_s]
    refine k_imul dX6_undo_39 ?_
    refine Wk.top (v' := .int (nI (222 * c1))) (congrArg Value.int (pk_mul 222 c1)) ?_
    refine k_al0 dX6_undo_40 ?_
    refine m_g0 hA fgX6_7_5 dX6_undo_41 ?_
    refine k_iconst (v := 0) dX6_undo_44 rfl ?_
    refine k_cSV4 csX6_79 dX6_undo_45 (mc_X6_copies ht (s := 222 * c1) (t := 0) (mW_ot hA (k := 4) (by decide) (by decide) (by decide)) (mW_no hA) (by first | decide | (show _ + 222 ≤ 1776; omega)) (by decide) (by decide) (by decide) (Or.inl (fun e => absurd (hA 4 (by decide) 0 (by decide) e) (by decide)))) (Nat.le_of_eq (Nat.zero_add _)) (Nat.le_of_eq (Nat.zero_add _)) (fun h_45 e_45 => ?_)
    subst e_45
    rw [mW_pn hA]
    refine k_al0 dX6_undo_48 ?_
    refine m_g6 hA fgX6_29_5 dX6_undo_49 ?_
    rw [uI_s]
    exact k_iret dX6_undo_52 rfl rfl (by rw [hPP]; exact ⟨_, rfl, Or.inr ⟨c1, rfl, rfl, _, fun j hj => (by simp only [va_cpy]; rw [if_pos (by omega)]; first | rfl | (congr 1; omega)), rfl⟩⟩)
  · refine k_al0 dX6_undo_12 ?_
    refine k_iconst (v := 1) dX6_undo_13 rfl ?_
    refine k_cVI1 cvX6_75_5 dX6_undo_14 (mc_X6_no ht hA _) (mW_mo hA) (Nat.le_of_eq (Nat.zero_add _)) (Nat.le_of_eq (Nat.zero_add _)) (fun r_14 h_14 e_14 => ?_)
    obtain ⟨rfl, rfl⟩ := e_14
    exact k_iret dX6_undo_17 rfl rfl (by rw [hPP]; exact ⟨_, rfl, Or.inl ⟨Nat.eq_zero_of_not_pos (fun e => absurd (show nI c = 0 by simpa using c_9) (nI_ne0 e (by omega))), rfl, rfl⟩⟩)
theorem mc_X6_save {l : Launch} (ht : l.stackTraces = false) {g : gT} {h : hp} {A : Nat → Nat} (hA : mOK A) {I R : Nat → Int32} {N : Nat → Nat → Int32}  : MM l g yX6_save kX6_save [.ref (A 21)] (mW h A I R N) (pI fun v_ h' => v_ = R 2 ∧ ∃ F, (∀ j, j < 222 → F j = R j) ∧ h' = mW h A (uI (uI I 5 0) 11 1) R (uA N 3 F)) (noX) (0) (0) := by
  refine MM.of (by decide) rfl rfl rfl (List.forall_mem_cons.mpr ⟨rfl, fun _ h => absurd h List.not_mem_nil⟩) (Nat.le_of_ble_eq_true rfl) ht fun X => ?_
  show Wk _ _ _ _ _ _ _ _ _ [some (.ref (A 21))] _ _
  refine Wk.gen fun PP hPP => ?_
  refine k_al0 dX6_save_0 ?_
  refine k_iconst (v := 0) dX6_save_1 rfl ?_
  refine m_p5 hA fpX6_25_5 dX6_save_2 ?_
  refine k_al0 dX6_save_5 ?_
  refine m_g0 hA fgX6_7_5 dX6_save_6 ?_
  refine k_iconst (v := 0) dX6_save_9 rfl ?_
  refine k_al0 dX6_save_10 ?_
  refine m_g3 hA fgX6_19_5 dX6_save_11 ?_
  refine k_iconst (v := 0) dX6_save_14 rfl ?_
  refine k_cSV4 csX6_79 dX6_save_15 (mc_X6_copies ht (s := 0) (t := 0) (mW_no hA) (mW_ot hA (k := 3) (by decide) (by decide) (by decide)) (by first | decide | (show _ + 222 ≤ 1776; omega)) (by decide) (by decide) (by decide) (Or.inl (fun e => absurd (hA 0 (by decide) 3 (by decide) e) (by decide)))) (Nat.le_of_eq (Nat.zero_add _)) (Nat.le_of_eq (Nat.zero_add _)) (fun h_15 e_15 => ?_)
  subst e_15
  rw [mW_pa hA (by decide) (by decide) (by decide)]
  refine k_al0 dX6_save_18 ?_
  refine k_iconst (v := 1) dX6_save_19 rfl ?_
  refine m_p11 hA fpX6_44_5 dX6_save_20 (Or.inr rfl) ?_
  refine k_al0 dX6_save_23 ?_
  refine m_g0 hA fgX6_7_5 dX6_save_24 ?_
  refine k_iconst (v := 2) dX6_save_27 rfl ?_
  refine m_ldn hA dX6_save_28 (⟨rfl, by decide⟩ : ixI _ 2) (by decide) ?_
  exact k_iret dX6_save_29 rfl rfl (by rw [hPP]; exact ⟨_, rfl, rfl, _, fun j hj => (by simp only [va_cpy]; rw [if_pos (by omega)]; first | rfl | (congr 1; omega)), rfl⟩)
theorem mc_X6_restore {l : Launch} (ht : l.stackTraces = false) {g : gT} {h : hp} {A : Nat → Nat} (hA : mOK A) {I R : Nat → Int32} {N : Nat → Nat → Int32}  : MM l g yX6_restore kX6_restore [.ref (A 21)] (mW h A I R N) (pI fun v_ h' => (I 11 = 0 ∧ v_ = 0 ∧ h' = mW h A (uI (uI I 5 0) 5 1) R N) ∨ (¬ I 11 = 0 ∧ v_ = N 3 2 ∧ ∃ R', (∀ j, j < 222 → R' j = N 3 j) ∧ h' = mW h A (uI (uI I 5 0) 6 0) R' N)) (noX) (0) (0) := by
  refine MM.of (by decide) rfl rfl rfl (List.forall_mem_cons.mpr ⟨rfl, fun _ h => absurd h List.not_mem_nil⟩) (Nat.le_of_ble_eq_true rfl) ht fun X => ?_
  show Wk _ _ _ _ _ _ _ _ _ [some (.ref (A 21))] _ _
  refine Wk.gen fun PP hPP => ?_
  refine k_al0 dX6_restore_0 ?_
  refine k_iconst (v := 0) dX6_restore_1 rfl ?_
  refine m_p5 hA fpX6_25_5 dX6_restore_2 ?_
  refine k_al0 dX6_restore_5 ?_
  refine m_g11 hA fgX6_44_5 dX6_restore_6 ?_
  rw [uI_n (by decide)]
  refine k_if_ne (tgt := 18) dX6_restore_9 (by decide) (fun c_9 => ?_) (fun c_9 => ?_)
  · refine k_al0 dX6_restore_18 ?_
    refine m_g3 hA fgX6_19_5 dX6_restore_19 ?_
    refine k_iconst (v := 0) dX6_restore_22 rfl ?_
    refine k_al0 dX6_restore_23 ?_
    refine m_g0 hA fgX6_7_5 dX6_restore_24 ?_
    refine k_iconst (v := 0) dX6_restore_27 rfl ?_
    refine k_cSV4 csX6_79 dX6_restore_28 (mc_X6_copies ht (s := 0) (t := 0) (mW_ot hA (k := 3) (by decide) (by decide) (by decide)) (mW_no hA) (by first | decide | (show _ + 222 ≤ 1776; omega)) (by decide) (by decide) (by decide) (Or.inl (fun e => absurd (hA 3 (by decide) 0 (by decide) e) (by decide)))) (Nat.le_of_eq (Nat.zero_add _)) (Nat.le_of_eq (Nat.zero_add _)) (fun h_28 e_28 => ?_)
    subst e_28
    rw [mW_pn hA]
    refine k_al0 dX6_restore_31 ?_
    refine k_iconst (v := 0) dX6_restore_32 rfl ?_
    refine m_p6 hA fpX6_29_5 dX6_restore_33 ?_
    refine k_al0 dX6_restore_36 ?_
    refine m_g0 hA fgX6_7_5 dX6_restore_37 ?_
    refine k_iconst (v := 2) dX6_restore_40 rfl ?_
    refine m_ldn hA dX6_restore_41 (⟨rfl, by decide⟩ : ixI _ 2) (by decide) ?_
    exact k_iret dX6_restore_42 rfl rfl (by rw [hPP]; exact ⟨_, rfl, Or.inr ⟨c_9, rfl, _, fun j hj => (by simp only [va_cpy]; rw [if_pos (by omega)]; first | rfl | (congr 1; omega)), rfl⟩⟩)
  · refine k_al0 dX6_restore_12 ?_
    refine k_iconst (v := 1) dX6_restore_13 rfl ?_
    refine k_cVI1 cvX6_75_5 dX6_restore_14 (mc_X6_no ht hA _) (mW_mo hA) (Nat.le_of_eq (Nat.zero_add _)) (Nat.le_of_eq (Nat.zero_add _)) (fun r_14 h_14 e_14 => ?_)
    obtain ⟨rfl, rfl⟩ := e_14
    exact k_iret dX6_restore_17 rfl rfl (by rw [hPP]; exact ⟨_, rfl, Or.inl ⟨by simpa using c_9, rfl, rfl⟩⟩)
/-- what a step notes of a refusal -/
def mNote (o : Option (Int32 × Int32)) (I' : Nat → Int32) : Prop := ∀ w, o = some w → I' 7 = w.1 ∧ I' 8 = w.2
theorem mNote.no {I' : Nat → Int32} : mNote none I' := fun _ e => by cases e
theorem mNote.why {I : Nat → Int32} {o : Option (Int32 × Int32)} : mNote o (mWhy I o) := fun w e => by subst e; exact mWhy_7
theorem s_does_w {R : Row} {a b : Int32} : s_does R (119, a, b) = (if inB a 0 3 = false then (1, R, none) else if inB b (-3) 3 = false then (1, R, none) else (0, upd R (8 + a.toNatClampNeg) b, none)) := by
  unfold s_does
  rw [if_pos (show (119, a, b).1 = (119 : Int32) from rfl)]
theorem s_does_l {R : Row} {a b : Int32} : s_does R (108, a, b) = (if inB a 0 (R 2 - 1) = false then ((1 : Int32), R, none) else if inB b 0 (R 3 - 1) = false then (1, R, none)
    else match s_refL R a.toNatClampNeg b.toNatClampNeg with
      | some w => (2, R, some w)
      | none => (0, s_launches R a.toNatClampNeg b.toNatClampNeg, none)) := by
  unfold s_does
  rw [if_neg (show ¬ (108 : Int32) = (119 : Int32) by decide), if_pos (show (108, a, b).1 = (108 : Int32) from rfl)]
  rfl
theorem s_does_g {R : Row} {a b : Int32} : s_does R (103, a, b) = (match s_roofAt R a with
      | none => (1, R, none)
      | some r => if inB b 1 9 = false then (1, R, none) else if R (12 + 5 * r + 3) = 1 then (2, R, some (8, R (12 + 5 * r + 0))) else (0, s_wets R r b, none)) := by
  unfold s_does
  rw [if_neg (show ¬ (103 : Int32) = (119 : Int32) by decide), if_neg (show ¬ (103 : Int32) = (108 : Int32) by decide), if_pos (show (103, a, b).1 = (103 : Int32) from rfl)]
  rfl
theorem s_does_o {R : Row} {a b : Int32} : s_does R (111, a, b) = (match s_roofAt R a with
      | none => (1, R, none)
      | some r => (0, upd R (12 + 5 * r + 2) 1, none)) := by
  unfold s_does
  rw [if_neg (show ¬ (111 : Int32) = (119 : Int32) by decide), if_neg (show ¬ (111 : Int32) = (108 : Int32) by decide), if_neg (show ¬ (111 : Int32) = (103 : Int32) by decide), if_pos (show (111, a, b).1 = (111 : Int32) from rfl)]
  rfl
theorem s_does_p {R : Row} {c a b : Int32} (h1 : ¬ c = 119) (h2 : ¬ c = 108) (h3 : ¬ c = 103) (h4 : ¬ c = 111) : s_does R (c, a, b) = (if inB a 1 60 = false then (1, R, none) else (0, (s_goes a.toNatClampNeg R).1, none)) := by
  unfold s_does
  rw [if_neg (show ¬ (c, a, b).1 = (119 : Int32) from h1), if_neg (show ¬ (c, a, b).1 = (108 : Int32) from h2), if_neg (show ¬ (c, a, b).1 = (103 : Int32) from h3), if_neg (show ¬ (c, a, b).1 = (111 : Int32) from h4)]
theorem off_d {c : Int32} (h1 : ¬ c = 103) (h2 : ¬ c = 108) (h3 : ¬ c = 111) (h4 : ¬ c = 119) : Op.lookupswitch.offset [(103, 154), (108, 86), (111, 199), (119, 41)] 214 c.toInt = 214 := by
  have key : ∀ k : Int32, ¬ c = k → ¬ c.toInt = k.toInt := fun k hk e => hk (Int32.toInt_inj.mp e)
  have e1 := key 103 h1
  have e2 := key 108 h2
  have e3 := key 111 h3
  have e4 := key 119 h4
  rw [show (103 : Int32).toInt = 103 by decide] at e1
  rw [show (108 : Int32).toInt = 108 by decide] at e2
  rw [show (111 : Int32).toInt = 111 by decide] at e3
  rw [show (119 : Int32).toInt = 119 by decide] at e4
  simp [Op.lookupswitch.offset, Ne.symm e1, Ne.symm e2, Ne.symm e3, Ne.symm e4, e1, e2, e3, e4]
theorem mc_X6_does {l : Launch} (ht : l.stackTraces = false) {g : gT} {h : hp} {A : Nat → Nat} (hA : mOK A) {I R : Nat → Int32} {N : Nat → Nat → Int32} (hR : RI R) {k : Nat} (hk : k < 32) {c a b : Int32} (hc : N 13 k = c) (ha : N 14 k = a) (hb : N 15 k = b) : MM l g yX6_does kX6_does [.ref (A 21), .int (nI k)] (mW h A I R N) (pI fun v_ h' => v_ = (s_does R (c, a, b)).1 ∧ ∃ I', mNote (s_does R (c, a, b)).2.2 I' ∧ mW78 I I' ∧ h' = mW h A I' (s_does R (c, a, b)).2.1 N) (noX) (0) (0) := by
  refine MM.of (by decide) rfl rfl rfl (List.forall_mem_cons.mpr ⟨rfl, List.forall_mem_cons.mpr ⟨rfl, fun _ h => absurd h List.not_mem_nil⟩⟩) (Nat.le_of_ble_eq_true rfl) ht fun X => ?_
  show Wk _ _ _ _ _ _ _ _ _ [some (.ref (A 21)), some (.int (nI k)), none, none] _ _
  have h1 := hR.h1
  have h18 := hR.h18
  have h28 := hR.h28
  have h38 := hR.h38
  refine Wk.gen fun PP hPP => ?_
  refine k_iconst (v := 0) dX6_does_0 rfl ?_
  refine k_is2 dX6_does_1 (Nat.le_of_ble_eq_true rfl) ?_
  refine k_al0 dX6_does_2 ?_
  refine k_al0 dX6_does_3 ?_
  refine m_g14 hA fgX6_54_5 dX6_does_4 ?_
  refine k_il1 dX6_does_7 ?_
  refine m_ld hA (by decide) (by decide) (by decide) dX6_does_8 (ixI_n (by omega)) (show k < 32 by omega) ?_
  rw [ha]
  refine k_cVI1 cvX6_110_5 dX6_does_9 (mc_X6_roofAtPlace ht hA _ h1 h18) (mW_mo hA) (Nat.le_of_eq (Nat.zero_add _)) (Nat.le_of_eq (Nat.zero_add _)) (fun r_9 h_9 e_9 => ?_)
  obtain ⟨rfl, rfl⟩ := e_9
  refine k_is3 dX6_does_12 (Nat.le_of_ble_eq_true rfl) ?_
  refine k_al0 dX6_does_13 ?_
  refine m_g13 hA fgX6_51_5 dX6_does_14 ?_
  refine k_il1 dX6_does_17 ?_
  refine m_ld hA (by decide) (by decide) (by decide) dX6_does_18 (ixI_n (by omega)) (show k < 32 by omega) ?_
  rw [hc]
  by_cases h119 : c = 119
  · subst h119
    refine k_lookup (off := 41) (tgt := 60) dX6_does_19 (by decide) (by decide) (by decide) ?_
    refine k_al0 dX6_does_60 ?_
    refine m_g14 hA fgX6_54_5 dX6_does_61 ?_
    refine k_il1 dX6_does_64 ?_
    refine m_ld hA (by decide) (by decide) (by decide) dX6_does_65 (ixI_n (by omega)) (show k < 32 by omega) ?_
    rw [ha]
    refine k_cSI1 csX6_90 dX6_does_66 (mc_X6_isLayer ht _) (Nat.le_of_eq (Nat.zero_add _)) (Nat.le_of_eq (Nat.zero_add _)) (fun r_66 h_66 e_66 => ?_)
    obtain ⟨rfl, rfl⟩ := e_66
    refine k_if_eq (tgt := 84) dX6_does_69 (by decide) (fun c_69 => ?_) (fun c_69 => ?_)
    · refine k_iconst (v := 1) dX6_does_84 rfl ?_
      exact k_iret dX6_does_85 rfl rfl (by rw [hPP, show s_does R (119, a, b) = (1, R, none) by rw [s_does_w]; first | rw [if_pos (bI_0.mp c_69)] | rw [if_neg (by rw [bI_n0.mp c_69]; decide), if_pos (bI_0.mp (by simpa using c_81))]]; exact ⟨_, rfl, rfl, I, mNote.no, mW78.rfl', rfl⟩)
    · refine k_al0 dX6_does_72 ?_
      refine m_g15 hA fgX6_57_5 dX6_does_73 ?_
      refine k_il1 dX6_does_76 ?_
      refine m_ld hA (by decide) (by decide) (by decide) dX6_does_77 (ixI_n (by omega)) (show k < 32 by omega) ?_
      rw [hb]
      refine k_cSI1 csX6_94 dX6_does_78 (mc_X6_isDrift ht _) (Nat.le_of_eq (Nat.zero_add _)) (Nat.le_of_eq (Nat.zero_add _)) (fun r_78 h_78 e_78 => ?_)
      obtain ⟨rfl, rfl⟩ := e_78
      refine k_if_ne (tgt := 86) dX6_does_81 (by decide) (fun c_81 => ?_) (fun c_81 => ?_)
      · have a1 := bI_n0.mp c_69
        have b1 := bI_n0.mp c_81
        obtain ⟨i, hi, rfl⟩ := inB_nI (n := 3) (by decide) a1
        refine k_al0 dX6_does_86 ?_
        refine k_al0 dX6_does_87 ?_
        refine m_g14 hA fgX6_54_5 dX6_does_88 ?_
        refine k_il1 dX6_does_91 ?_
        refine m_ld hA (by decide) (by decide) (by decide) dX6_does_92 (ixI_n (by omega)) (show k < 32 by omega) ?_
        rw [ha]
        refine k_al0 dX6_does_93 ?_
        refine m_g15 hA fgX6_57_5 dX6_does_94 ?_
        refine k_il1 dX6_does_97 ?_
        refine m_ld hA (by decide) (by decide) (by decide) dX6_does_98 (ixI_n (by omega)) (show k < 32 by omega) ?_
        rw [hb]
        refine k_cVI2 cvX6_97_5 dX6_does_99 (mc_X6_sets ht hA i (by omega) _) (mW_mo hA) (Nat.le_of_eq (Nat.zero_add _)) (Nat.le_of_eq (Nat.zero_add _)) (fun r_99 h_99 e_99 => ?_)
        obtain ⟨rfl, rfl⟩ := e_99
        refine k_is2 dX6_does_102 (Nat.le_of_ble_eq_true rfl) ?_
        refine k_iconst (v := 0) dX6_does_103 rfl ?_
        exact k_iret dX6_does_104 rfl rfl (by rw [hPP, show s_does R (119, nI i, b) = (0, upd R (8 + i) b, none) by rw [s_does_w, if_neg (by rw [a1]; decide), if_neg (by rw [b1]; decide), nI_clamp (by omega)]]; exact ⟨_, rfl, rfl, I, mNote.no, mW78.rfl', rfl⟩)
      · refine k_iconst (v := 1) dX6_does_84 rfl ?_
        exact k_iret dX6_does_85 rfl rfl (by rw [hPP, show s_does R (119, a, b) = (1, R, none) by rw [s_does_w]; first | rw [if_pos (bI_0.mp c_69)] | rw [if_neg (by rw [bI_n0.mp c_69]; decide), if_pos (bI_0.mp (by simpa using c_81))]]; exact ⟨_, rfl, rfl, I, mNote.no, mW78.rfl', rfl⟩)
  by_cases h108 : c = 108
  · subst h108
    refine k_lookup (off := 86) (tgt := 105) dX6_does_19 (by decide) (by decide) (by decide) ?_
    refine k_al0 dX6_does_105 ?_
    refine k_al0 dX6_does_106 ?_
    refine m_g14 hA fgX6_54_5 dX6_does_107 ?_
    refine k_il1 dX6_does_110 ?_
    refine m_ld hA (by decide) (by decide) (by decide) dX6_does_111 (ixI_n (by omega)) (show k < 32 by omega) ?_
    rw [ha]
    refine k_cVI1 cvX6_158_5 dX6_does_112 (mc_X6_isBalloon ht hA _) (mW_mo hA) (Nat.le_of_eq (Nat.zero_add _)) (Nat.le_of_eq (Nat.zero_add _)) (fun r_112 h_112 e_112 => ?_)
    obtain ⟨rfl, rfl⟩ := e_112
    refine k_if_eq (tgt := 131) dX6_does_115 (by decide) (fun c_115 => ?_) (fun c_115 => ?_)
    · refine k_iconst (v := 1) dX6_does_131 rfl ?_
      exact k_iret dX6_does_132 rfl rfl (by rw [hPP, show s_does R (108, a, b) = (1, R, none) by rw [s_does_l]; first | rw [if_pos (bI_0.mp c_115)] | rw [if_neg (by rw [bI_n0.mp c_115]; decide), if_pos (bI_0.mp (by simpa using c_128))]]; exact ⟨_, rfl, rfl, I, mNote.no, mW78.rfl', rfl⟩)
    · refine k_al0 dX6_does_118 ?_
      refine k_al0 dX6_does_119 ?_
      refine m_g15 hA fgX6_57_5 dX6_does_120 ?_
      refine k_il1 dX6_does_123 ?_
      refine m_ld hA (by decide) (by decide) (by decide) dX6_does_124 (ixI_n (by omega)) (show k < 32 by omega) ?_
      rw [hb]
      refine k_cVI1 cvX6_152_5 dX6_does_125 (mc_X6_isCrew ht hA _) (mW_mo hA) (Nat.le_of_eq (Nat.zero_add _)) (Nat.le_of_eq (Nat.zero_add _)) (fun r_125 h_125 e_125 => ?_)
      obtain ⟨rfl, rfl⟩ := e_125
      refine k_if_ne (tgt := 133) dX6_does_128 (by decide) (fun c_128 => ?_) (fun c_128 => ?_)
      · have a1 := bI_n0.mp c_115
        have b1 := bI_n0.mp c_128
        obtain ⟨i, hi, rfl⟩ := hR.balIx a1
        obtain ⟨j, hj, rfl⟩ := hR.crewIx b1
        refine k_al0 dX6_does_133 ?_
        refine k_al0 dX6_does_134 ?_
        refine m_g14 hA fgX6_54_5 dX6_does_135 ?_
        refine k_il1 dX6_does_138 ?_
        refine m_ld hA (by decide) (by decide) (by decide) dX6_does_139 (ixI_n (by omega)) (show k < 32 by omega) ?_
        rw [ha]
        refine k_al0 dX6_does_140 ?_
        refine m_g15 hA fgX6_57_5 dX6_does_141 ?_
        refine k_il1 dX6_does_144 ?_
        refine m_ld hA (by decide) (by decide) (by decide) dX6_does_145 (ixI_n (by omega)) (show k < 32 by omega) ?_
        rw [hb]
        refine k_cVI2 cvX6_161_5 dX6_does_146 (mc_X6_isRefusedLaunch ht hA (by omega) (by omega)) (mW_mo hA) (Nat.le_of_eq (Nat.zero_add _)) (Nat.le_of_eq (Nat.zero_add _)) (fun r_146 h_146 e_146 => ?_)
        obtain ⟨rfl, rfl⟩ := e_146
        refine k_if_eq (tgt := 154) dX6_does_149 (by decide) (fun c_149 => ?_) (fun c_149 => ?_)
        · have hno : s_refL R i j = none := by simpa using bI_0.mp c_149
          rw [hno]
          refine k_al0 dX6_does_154 ?_
          refine k_al0 dX6_does_155 ?_
          refine m_g14 hA fgX6_54_5 dX6_does_156 ?_
          refine k_il1 dX6_does_159 ?_
          refine m_ld hA (by decide) (by decide) (by decide) dX6_does_160 (ixI_n (by omega)) (show k < 32 by omega) ?_
          rw [ha]
          refine k_al0 dX6_does_161 ?_
          refine m_g15 hA fgX6_57_5 dX6_does_162 ?_
          refine k_il1 dX6_does_165 ?_
          refine m_ld hA (by decide) (by decide) (by decide) dX6_does_166 (ixI_n (by omega)) (show k < 32 by omega) ?_
          rw [hb]
          refine k_cVI2 cvX6_164_5 dX6_does_167 (mc_X6_launches ht hA (by omega) (by omega)) (mW_mo hA) (Nat.le_of_eq (Nat.zero_add _)) (Nat.le_of_eq (Nat.zero_add _)) (fun r_167 h_167 e_167 => ?_)
          obtain ⟨rfl, rfl⟩ := e_167
          refine k_is2 dX6_does_170 (Nat.le_of_ble_eq_true rfl) ?_
          refine k_iconst (v := 0) dX6_does_171 rfl ?_
          exact k_iret dX6_does_172 rfl rfl (by rw [hPP, show s_does R (108, nI i, nI j) = (0, s_launches R i j, none) by rw [s_does_l, if_neg (by rw [a1]; decide), if_neg (by rw [b1]; decide), nI_clamp (show i < 2 ^ 31 by omega), nI_clamp (show j < 2 ^ 31 by omega), hno]]; exact ⟨_, rfl, rfl, I, mNote.no, mW78.rfl', rfl⟩)
        · refine k_iconst (v := 2) dX6_does_152 rfl ?_
          exact k_iret dX6_does_153 rfl rfl (by obtain ⟨w, hw⟩ := Option.isSome_iff_exists.mp (bI_n0.mp c_149); rw [hPP, hw, show s_does R (108, nI i, nI j) = (2, R, some w) by rw [s_does_l, if_neg (by rw [a1]; decide), if_neg (by rw [b1]; decide), nI_clamp (show i < 2 ^ 31 by omega), nI_clamp (show j < 2 ^ 31 by omega), hw]]; exact ⟨_, rfl, rfl, _, mNote.why, mW78.why, rfl⟩)
      · refine k_iconst (v := 1) dX6_does_131 rfl ?_
        exact k_iret dX6_does_132 rfl rfl (by rw [hPP, show s_does R (108, a, b) = (1, R, none) by rw [s_does_l]; first | rw [if_pos (bI_0.mp c_115)] | rw [if_neg (by rw [bI_n0.mp c_115]; decide), if_pos (bI_0.mp (by simpa using c_128))]]; exact ⟨_, rfl, rfl, I, mNote.no, mW78.rfl', rfl⟩)
  by_cases h103 : c = 103
  · subst h103
    refine k_lookup (off := 154) (tgt := 173) dX6_does_19 (by decide) (by decide) (by decide) ?_
    refine k_il3 dX6_does_173 ?_
    refine k_if_lt (tgt := 192) dX6_does_174 (by decide) (fun c_174 => ?_) (fun c_174 => ?_)
    · refine k_iconst (v := 1) dX6_does_192 rfl ?_
      exact k_iret dX6_does_193 rfl rfl (by rw [hPP, show s_does R (103, a, b) = (1, R, none) by rw [s_does_g]; first | (rw [rfo_lt (s_roofAt_b h18) c_174]) | (obtain ⟨r, hr⟩ := rfo_ge c_174; rw [hr]; simp only; rw [if_pos (bI_0.mp (by simpa using c_189))])]; exact ⟨_, rfl, rfl, I, mNote.no, mW78.rfl', rfl⟩)
    · refine k_al0 dX6_does_177 ?_
      refine m_g15 hA fgX6_57_5 dX6_does_178 ?_
      refine k_il1 dX6_does_181 ?_
      refine m_ld hA (by decide) (by decide) (by decide) dX6_does_182 (ixI_n (by omega)) (show k < 32 by omega) ?_
      rw [hb]
      refine k_iconst (v := 1) dX6_does_183 rfl ?_
      refine k_bipush (v := 9) dX6_does_184 rfl ?_
      refine k_cSI3 csX6_83 dX6_does_186 (mc_X6_in ht _ _ _) (Nat.le_of_eq (Nat.zero_add _)) (Nat.le_of_eq (Nat.zero_add _)) (fun r_186 h_186 e_186 => ?_)
      obtain ⟨rfl, rfl⟩ := e_186
      refine k_if_ne (tgt := 194) dX6_does_189 (by decide) (fun c_189 => ?_) (fun c_189 => ?_)
      · have b1 := bI_n0.mp c_189
        obtain ⟨r, hr⟩ := rfo_ge (c_174)
        have hr8 := s_roofAt_lt hr
        rw [hr]
        show Wk _ _ _ _ _ _ _ _ _ [_, _, _, some (.int (nI r))] _ _
        refine k_al0 dX6_does_194 ?_
        refine k_il3 dX6_does_195 ?_
        refine k_cVI1 cvX6_134_5 dX6_does_196 (mc_X6_isRefusedWet ht hA (by omega)) (mW_mo hA) (Nat.le_of_eq (Nat.zero_add _)) (Nat.le_of_eq (Nat.zero_add _)) (fun r_196 h_196 e_196 => ?_)
        obtain ⟨rfl, rfl⟩ := e_196
        refine k_if_eq (tgt := 204) dX6_does_199 (by decide) (fun c_199 => ?_) (fun c_199 => ?_)
        · have hnb := of_decide_eq_false (bI_0.mp c_199)
          rw [if_neg hnb]
          refine k_al0 dX6_does_204 ?_
          refine k_il3 dX6_does_205 ?_
          refine k_al0 dX6_does_206 ?_
          refine m_g15 hA fgX6_57_5 dX6_does_207 ?_
          refine k_il1 dX6_does_210 ?_
          refine m_ld hA (by decide) (by decide) (by decide) dX6_does_211 (ixI_n (by omega)) (show k < 32 by omega) ?_
          rw [hb]
          refine k_cVI2 cvX6_137_5 dX6_does_212 (mc_X6_wets ht hA (by omega) _) (mW_mo hA) (Nat.le_of_eq (Nat.zero_add _)) (Nat.le_of_eq (Nat.zero_add _)) (fun r_212 h_212 e_212 => ?_)
          obtain ⟨rfl, rfl⟩ := e_212
          refine k_is2 dX6_does_215 (Nat.le_of_ble_eq_true rfl) ?_
          refine k_iconst (v := 0) dX6_does_216 rfl ?_
          exact k_iret dX6_does_217 rfl rfl (by rw [hPP, show s_does R (103, a, b) = (0, s_wets R r b, none) by rw [s_does_g, hr]; simp only; rw [if_neg (by rw [b1]; decide), if_neg hnb]]; exact ⟨_, rfl, rfl, I, mNote.no, mW78.rfl', rfl⟩)
        · refine k_iconst (v := 2) dX6_does_202 rfl ?_
          exact k_iret dX6_does_203 rfl rfl (by (have hbu := of_decide_eq_true (bI_n0.mp c_199)); rw [hPP, if_pos hbu, show s_does R (103, a, b) = (2, R, some (8, R (12 + 5 * r + 0))) by rw [s_does_g, hr]; simp only; rw [if_neg (by rw [b1]; decide), if_pos hbu]]; exact ⟨_, rfl, rfl, _, (fun w e => by cases e; simp [uI]), (fun k h7 h8 => by simp [uI, h7, h8]), rfl⟩)
      · refine k_iconst (v := 1) dX6_does_192 rfl ?_
        exact k_iret dX6_does_193 rfl rfl (by rw [hPP, show s_does R (103, a, b) = (1, R, none) by rw [s_does_g]; first | (rw [rfo_lt (s_roofAt_b h18) c_174]) | (obtain ⟨r, hr⟩ := rfo_ge c_174; rw [hr]; simp only; rw [if_pos (bI_0.mp (by simpa using c_189))])]; exact ⟨_, rfl, rfl, I, mNote.no, mW78.rfl', rfl⟩)
  by_cases h111 : c = 111
  · subst h111
    refine k_lookup (off := 199) (tgt := 218) dX6_does_19 (by decide) (by decide) (by decide) ?_
    refine k_il3 dX6_does_218 ?_
    refine k_if_ge (tgt := 224) dX6_does_219 (by decide) (fun c_219 => ?_) (fun c_219 => ?_)
    · obtain ⟨r, hr⟩ := rfo_ge (Int32.not_lt.mpr c_219)
      have hr8 := s_roofAt_lt hr
      rw [hr]
      show Wk _ _ _ _ _ _ _ _ _ [_, _, _, some (.int (nI r))] _ _
      refine k_al0 dX6_does_224 ?_
      refine k_il3 dX6_does_225 ?_
      refine k_iconst (v := 1) dX6_does_226 rfl ?_
      refine k_cVI2 cvX6_127_5 dX6_does_227 (mc_X6_watches ht hA (by omega) _ h1 h18) (mW_mo hA) (Nat.le_of_eq (Nat.zero_add _)) (Nat.le_of_eq (Nat.zero_add _)) (fun r_227 h_227 e_227 => ?_)
      obtain ⟨rfl, rfl⟩ := e_227
      refine k_is2 dX6_does_230 (Nat.le_of_ble_eq_true rfl) ?_
      refine k_iconst (v := 0) dX6_does_231 rfl ?_
      exact k_iret dX6_does_232 rfl rfl (by rw [hPP, show s_does R (111, a, b) = (0, upd R (12 + 5 * r + 2) 1, none) by rw [s_does_o, hr]]; exact ⟨_, rfl, rfl, I, mNote.no, mW78.rfl', rfl⟩)
    · refine k_iconst (v := 1) dX6_does_222 rfl ?_
      exact k_iret dX6_does_223 rfl rfl (by rw [hPP, show s_does R (111, a, b) = (1, R, none) by rw [s_does_o, rfo_lt (s_roofAt_b h18) (Int32.not_le.mp (by simpa using c_219))]]; exact ⟨_, rfl, rfl, I, mNote.no, mW78.rfl', rfl⟩)
  · refine k_lookup (off := 214) (tgt := 233) dX6_does_19 (by decide) (off_d h103 h108 h111 h119) (by decide) ?_
    refine k_al0 dX6_does_233 ?_
    refine m_g14 hA fgX6_54_5 dX6_does_234 ?_
    refine k_il1 dX6_does_237 ?_
    refine m_ld hA (by decide) (by decide) (by decide) dX6_does_238 (ixI_n (by omega)) (show k < 32 by omega) ?_
    rw [ha]
    refine k_cSI1 csX6_213 dX6_does_239 (mc_X6_areMinutes ht _) (Nat.le_of_eq (Nat.zero_add _)) (Nat.le_of_eq (Nat.zero_add _)) (fun r_239 h_239 e_239 => ?_)
    obtain ⟨rfl, rfl⟩ := e_239
    refine k_if_ne (tgt := 247) dX6_does_242 (by decide) (fun c_242 => ?_) (fun c_242 => ?_)
    · have a1 := bI_n0.mp c_242
      obtain ⟨n, rfl, hn⟩ := inB_1 a1
      refine k_al0 dX6_does_247 ?_
      refine k_al0 dX6_does_248 ?_
      refine m_g14 hA fgX6_54_5 dX6_does_249 ?_
      refine k_il1 dX6_does_252 ?_
      refine m_ld hA (by decide) (by decide) (by decide) dX6_does_253 (ixI_n (by omega)) (show k < 32 by omega) ?_
      rw [ha]
      refine k_cVI1 cvX6_216_5 dX6_does_254 (mc_X6_goes ht hA hR (by omega)) (mW_mo hA) (Nat.le_of_eq (Nat.zero_add _)) (Nat.le_of_eq (Nat.zero_add _)) (fun r_254 h_254 e_254 => ?_)
      obtain ⟨rfl, I2, hI2, rfl⟩ := e_254
      refine k_is2 dX6_does_257 (Nat.le_of_ble_eq_true rfl) ?_
      refine k_iconst (v := 0) dX6_does_258 rfl ?_
      exact k_iret dX6_does_259 rfl rfl (by rw [hPP, show s_does R (c, nI n, b) = (0, (s_goes n R).1, none) by rw [s_does_p h119 h108 h103 h111, if_neg (by rw [a1]; decide), nI_clamp (by omega)]]; exact ⟨_, rfl, rfl, I2, mNote.no, hI2, rfl⟩)
    · refine k_iconst (v := 1) dX6_does_245 rfl ?_
      exact k_iret dX6_does_246 rfl rfl (by rw [hPP, show s_does R (c, a, b) = (1, R, none) by rw [s_does_p h119 h108 h103 h111, if_pos (bI_0.mp (by simpa using c_242))]]; exact ⟨_, rfl, rfl, I, mNote.no, mW78.rfl', rfl⟩)
