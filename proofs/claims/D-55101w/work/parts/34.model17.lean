/-! THE MODEL: contracts of its methods, 17: the constructor (printed by tools/mk_model17.py) -/
set_option maxRecDepth 100000
theorem fpX6_7_5 : FPs "TissueBalloonsModel" "<init>" 7 5 0 (.array (.int)) := ⟨RX6, TX6, 21, RX6, tyX6, rfl, by decide, in_X6, tyX6_ok, nmX6, Or.inl rfl, tyX6_ok 0 (by decide), Or.inr (Or.inr ⟨q3093, rfl, rfl, rfl⟩)⟩
theorem fpX6_13_5 : FPs "TissueBalloonsModel" "<init>" 13 5 1 (.array (.int)) := ⟨RX6, TX6, 21, RX6, tyX6, rfl, by decide, in_X6, tyX6_ok, nmX6, Or.inl rfl, tyX6_ok 1 (by decide), Or.inr (Or.inr ⟨q3094, rfl, rfl, rfl⟩)⟩
theorem fpX6_16_5 : FPs "TissueBalloonsModel" "<init>" 16 5 2 (.array (.int)) := ⟨RX6, TX6, 21, RX6, tyX6, rfl, by decide, in_X6, tyX6_ok, nmX6, Or.inl rfl, tyX6_ok 2 (by decide), Or.inr (Or.inr ⟨q3095, rfl, rfl, rfl⟩)⟩
theorem fpX6_19_5 : FPs "TissueBalloonsModel" "<init>" 19 5 3 (.array (.int)) := ⟨RX6, TX6, 21, RX6, tyX6, rfl, by decide, in_X6, tyX6_ok, nmX6, Or.inl rfl, tyX6_ok 3 (by decide), Or.inr (Or.inr ⟨q3096, rfl, rfl, rfl⟩)⟩
theorem fpX6_22_5 : FPs "TissueBalloonsModel" "<init>" 22 5 4 (.array (.int)) := ⟨RX6, TX6, 21, RX6, tyX6, rfl, by decide, in_X6, tyX6_ok, nmX6, Or.inl rfl, tyX6_ok 4 (by decide), Or.inr (Or.inr ⟨q3097, rfl, rfl, rfl⟩)⟩
theorem fpX6_48_5 : FPs "TissueBalloonsModel" "<init>" 48 5 12 (.array (.int)) := ⟨RX6, TX6, 21, RX6, tyX6, rfl, by decide, in_X6, tyX6_ok, nmX6, Or.inl rfl, tyX6_ok 12 (by decide), Or.inr (Or.inr ⟨q3105, rfl, rfl, rfl⟩)⟩
theorem fpX6_51_5 : FPs "TissueBalloonsModel" "<init>" 51 5 13 (.array (.int)) := ⟨RX6, TX6, 21, RX6, tyX6, rfl, by decide, in_X6, tyX6_ok, nmX6, Or.inl rfl, tyX6_ok 13 (by decide), Or.inr (Or.inr ⟨q3106, rfl, rfl, rfl⟩)⟩
theorem fpX6_54_5 : FPs "TissueBalloonsModel" "<init>" 54 5 14 (.array (.int)) := ⟨RX6, TX6, 21, RX6, tyX6, rfl, by decide, in_X6, tyX6_ok, nmX6, Or.inl rfl, tyX6_ok 14 (by decide), Or.inr (Or.inr ⟨q3107, rfl, rfl, rfl⟩)⟩
theorem fpX6_57_5 : FPs "TissueBalloonsModel" "<init>" 57 5 15 (.array (.int)) := ⟨RX6, TX6, 21, RX6, tyX6, rfl, by decide, in_X6, tyX6_ok, nmX6, Or.inl rfl, tyX6_ok 15 (by decide), Or.inr (Or.inr ⟨q3108, rfl, rfl, rfl⟩)⟩
theorem mW_of {h H : hp} {A : Nat → Nat} {I R : Nat → Int32} {N : Nat → Nat → Int32} (hA : mOK A) (h1 : ∀ k ∈ mAd, H (A k) = some (mC A I R N k)) (h2 : ∀ q, (∀ k ∈ mAd, q ≠ A k) → H q = h q) : H = mW h A I R N := by
  funext q
  unfold mW
  cases hf : mAd.find? (fun k => A k == q) with
  | none =>
    rw [List.find?_eq_none] at hf
    exact h2 q fun k hk e => by have := hf k hk; simp [e] at this
  | some k =>
    have h3 := List.find?_some hf
    have h4 := List.mem_of_find?_eq_some hf
    simp only [beq_iff_eq] at h3
    rw [← h3]
    exact h1 k h4
/-- the model at its start -/
def mI0 : Nat → Int32 := fun k => if k = 19 then -1 else 0
theorem mc_X6_init {l : Launch} (ht : l.stackTraces = false) {g : gT} {h0 : hp} {a : Nat} : MM l g yX6_init kX6_init [.ref a] (hu h0 a (oB 5 [.null, .null, .null, .null, .null, .int 0, .int 0, .int 0, .int 0, .int 0, .int 0, .int 0, .null, .null, .null, .null, .int 0, .int 0, .int 0, .int 0, .int 0])) (pV fun h' => ∃ A : Nat → Nat, mOK A ∧ A 21 = a ∧ (∀ k ∈ mAd, k ≠ 21 → h0 (A k) = none) ∧ h' = mW h0 A mI0 (fun _ => 0) (fun _ _ => 0)) (noX) (9) (2820) := by
  refine MM.of (by decide) rfl rfl rfl (List.forall_mem_cons.mpr ⟨rfl, fun _ h => absurd h List.not_mem_nil⟩) (Nat.le_of_ble_eq_true rfl) ht fun X => ?_
  show Wk _ _ _ _ _ _ _ _ _ [some (.ref a)] _ _
  refine Wk.gen fun PP hPP => ?_
  refine k_al0 dX6_init_0 ?_
  refine k_objInit q3092 q150 q151 dX6_init_1 (Nat.le_of_ble_eq_true rfl) ?_
  refine k_al0 dX6_init_4 ?_
  refine k_sipush (v := 222) dX6_init_5 rfl ?_
  refine k_newa_int (m := 222) (n := 8) (k := 2598) dX6_init_8 ⟨rfl, by decide⟩ (by decide) (by decide) (by decide) (fun q0 f0 => ?_)
  have n0 : a ≠ q0 := hp_neN hu_s f0
  rw [hu_c n0]
  refine k_q0 fpX6_7_5 dX6_init_10 rfl rfl ?_
  refine k_al0 dX6_init_13 ?_
  refine k_sipush (v := 222) dX6_init_14 rfl ?_
  refine k_newa_int (m := 222) (n := 7) (k := 2376) dX6_init_17 ⟨rfl, by decide⟩ (by decide) (by decide) (by decide) (fun q1 f1 => ?_)
  have n1 : a ≠ q1 := hp_neN hu_s f1
  rw [hu_c n1]
  refine k_q1 fpX6_13_5 dX6_init_19 rfl rfl ?_
  refine k_al0 dX6_init_22 ?_
  refine k_sipush (v := 222) dX6_init_23 rfl ?_
  refine k_newa_int (m := 222) (n := 6) (k := 2154) dX6_init_26 ⟨rfl, by decide⟩ (by decide) (by decide) (by decide) (fun q2 f2 => ?_)
  have n2 : a ≠ q2 := hp_neN hu_s f2
  rw [hu_c n2]
  refine k_q2 fpX6_16_5 dX6_init_28 rfl rfl ?_
  refine k_al0 dX6_init_31 ?_
  refine k_sipush (v := 222) dX6_init_32 rfl ?_
  refine k_newa_int (m := 222) (n := 5) (k := 1932) dX6_init_35 ⟨rfl, by decide⟩ (by decide) (by decide) (by decide) (fun q3 f3 => ?_)
  have n3 : a ≠ q3 := hp_neN hu_s f3
  rw [hu_c n3]
  refine k_q3 fpX6_19_5 dX6_init_37 rfl rfl ?_
  refine k_al0 dX6_init_40 ?_
  refine k_sipush (v := 1776) dX6_init_41 rfl ?_
  refine k_newa_int (m := 1776) (n := 4) (k := 156) dX6_init_44 ⟨rfl, by decide⟩ (by decide) (by decide) (by decide) (fun q4 f4 => ?_)
  have n4 : a ≠ q4 := hp_neN hu_s f4
  rw [hu_c n4]
  refine k_q4 fpX6_22_5 dX6_init_46 rfl rfl ?_
  refine k_al0 dX6_init_49 ?_
  refine k_iconst (v := 0) dX6_init_50 rfl ?_
  refine k_q5 fpX6_25_5 dX6_init_51 rfl rfl ?_
  refine k_al0 dX6_init_54 ?_
  refine k_iconst (v := 0) dX6_init_55 rfl ?_
  refine k_q6 fpX6_29_5 dX6_init_56 rfl rfl ?_
  refine k_al0 dX6_init_59 ?_
  refine k_iconst (v := 0) dX6_init_60 rfl ?_
  refine k_q7 fpX6_32_5 dX6_init_61 rfl rfl ?_
  refine k_al0 dX6_init_64 ?_
  refine k_iconst (v := 0) dX6_init_65 rfl ?_
  refine k_q8 fpX6_35_5 dX6_init_66 rfl rfl ?_
  refine k_al0 dX6_init_69 ?_
  refine k_iconst (v := 0) dX6_init_70 rfl ?_
  refine k_q9 fpX6_38_5 dX6_init_71 rfl rfl ?_
  refine k_al0 dX6_init_74 ?_
  refine k_iconst (v := 0) dX6_init_75 rfl ?_
  refine k_q10 fpX6_41_5 dX6_init_76 rfl rfl ?_
  refine k_al0 dX6_init_79 ?_
  refine k_iconst (v := 0) dX6_init_80 rfl ?_
  refine k_q11 fpX6_44_5 dX6_init_81 rfl rfl ?_
  refine k_al0 dX6_init_84 ?_
  refine k_bipush (v := 60) dX6_init_85 rfl ?_
  refine k_newa_int (m := 60) (n := 3) (k := 96) dX6_init_87 ⟨rfl, by decide⟩ (by decide) (by decide) (by decide) (fun q12 f12 => ?_)
  have n12 : a ≠ q12 := hp_neN hu_s f12
  rw [hu_c n12]
  refine k_q12 fpX6_48_5 dX6_init_89 rfl rfl ?_
  refine k_al0 dX6_init_92 ?_
  refine k_bipush (v := 32) dX6_init_93 rfl ?_
  refine k_newa_int (m := 32) (n := 2) (k := 64) dX6_init_95 ⟨rfl, by decide⟩ (by decide) (by decide) (by decide) (fun q13 f13 => ?_)
  have n13 : a ≠ q13 := hp_neN hu_s f13
  rw [hu_c n13]
  refine k_q13 fpX6_51_5 dX6_init_97 rfl rfl ?_
  refine k_al0 dX6_init_100 ?_
  refine k_bipush (v := 32) dX6_init_101 rfl ?_
  refine k_newa_int (m := 32) (n := 1) (k := 32) dX6_init_103 ⟨rfl, by decide⟩ (by decide) (by decide) (by decide) (fun q14 f14 => ?_)
  have n14 : a ≠ q14 := hp_neN hu_s f14
  rw [hu_c n14]
  refine k_q14 fpX6_54_5 dX6_init_105 rfl rfl ?_
  refine k_al0 dX6_init_108 ?_
  refine k_bipush (v := 32) dX6_init_109 rfl ?_
  refine k_newa_int (m := 32) (n := 0) (k := 0) dX6_init_111 ⟨rfl, by decide⟩ (by decide) (by decide) (by decide) (fun q15 f15 => ?_)
  have n15 : a ≠ q15 := hp_neN hu_s f15
  rw [hu_c n15]
  refine k_q15 fpX6_57_5 dX6_init_113 rfl rfl ?_
  refine k_al0 dX6_init_116 ?_
  refine k_iconst (v := 0) dX6_init_117 rfl ?_
  refine k_q16 fpX6_60_5 dX6_init_118 rfl rfl ?_
  refine k_al0 dX6_init_121 ?_
  refine k_iconst (v := 0) dX6_init_122 rfl ?_
  refine k_q17 fpX6_63_5 dX6_init_123 rfl rfl ?_
  refine k_al0 dX6_init_126 ?_
  refine k_iconst (v := 0) dX6_init_127 rfl ?_
  refine k_q18 fpX6_66_5 dX6_init_128 rfl rfl ?_
  refine k_al0 dX6_init_131 ?_
  refine k_iconst (v := (-1)) dX6_init_132 rfl ?_
  refine k_q19 fpX6_69_5 dX6_init_133 rfl rfl ?_
  refine k_al0 dX6_init_136 ?_
  refine k_iconst (v := 0) dX6_init_137 rfl ?_
  refine k_q20 fpX6_72_5 dX6_init_138 rfl rfl ?_
  refine k_vret dX6_init_141 rfl ?_
  rw [hPP]
  rw [hu_n (Ne.symm n0)] at f0
  rw [hu_n (Ne.symm n1)] at f1
  have d1_0 : q1 ≠ q0 := Ne.symm (hp_neN hu_s f1)
  rw [hu_n d1_0] at f1
  rw [hu_n (Ne.symm n2)] at f2
  have d2_1 : q2 ≠ q1 := Ne.symm (hp_neN hu_s f2)
  rw [hu_n d2_1] at f2
  have d2_0 : q2 ≠ q0 := Ne.symm (hp_neN hu_s f2)
  rw [hu_n d2_0] at f2
  rw [hu_n (Ne.symm n3)] at f3
  have d3_2 : q3 ≠ q2 := Ne.symm (hp_neN hu_s f3)
  rw [hu_n d3_2] at f3
  have d3_1 : q3 ≠ q1 := Ne.symm (hp_neN hu_s f3)
  rw [hu_n d3_1] at f3
  have d3_0 : q3 ≠ q0 := Ne.symm (hp_neN hu_s f3)
  rw [hu_n d3_0] at f3
  rw [hu_n (Ne.symm n4)] at f4
  have d4_3 : q4 ≠ q3 := Ne.symm (hp_neN hu_s f4)
  rw [hu_n d4_3] at f4
  have d4_2 : q4 ≠ q2 := Ne.symm (hp_neN hu_s f4)
  rw [hu_n d4_2] at f4
  have d4_1 : q4 ≠ q1 := Ne.symm (hp_neN hu_s f4)
  rw [hu_n d4_1] at f4
  have d4_0 : q4 ≠ q0 := Ne.symm (hp_neN hu_s f4)
  rw [hu_n d4_0] at f4
  rw [hu_n (Ne.symm n12)] at f12
  have d12_4 : q12 ≠ q4 := Ne.symm (hp_neN hu_s f12)
  rw [hu_n d12_4] at f12
  have d12_3 : q12 ≠ q3 := Ne.symm (hp_neN hu_s f12)
  rw [hu_n d12_3] at f12
  have d12_2 : q12 ≠ q2 := Ne.symm (hp_neN hu_s f12)
  rw [hu_n d12_2] at f12
  have d12_1 : q12 ≠ q1 := Ne.symm (hp_neN hu_s f12)
  rw [hu_n d12_1] at f12
  have d12_0 : q12 ≠ q0 := Ne.symm (hp_neN hu_s f12)
  rw [hu_n d12_0] at f12
  rw [hu_n (Ne.symm n13)] at f13
  have d13_12 : q13 ≠ q12 := Ne.symm (hp_neN hu_s f13)
  rw [hu_n d13_12] at f13
  have d13_4 : q13 ≠ q4 := Ne.symm (hp_neN hu_s f13)
  rw [hu_n d13_4] at f13
  have d13_3 : q13 ≠ q3 := Ne.symm (hp_neN hu_s f13)
  rw [hu_n d13_3] at f13
  have d13_2 : q13 ≠ q2 := Ne.symm (hp_neN hu_s f13)
  rw [hu_n d13_2] at f13
  have d13_1 : q13 ≠ q1 := Ne.symm (hp_neN hu_s f13)
  rw [hu_n d13_1] at f13
  have d13_0 : q13 ≠ q0 := Ne.symm (hp_neN hu_s f13)
  rw [hu_n d13_0] at f13
  rw [hu_n (Ne.symm n14)] at f14
  have d14_13 : q14 ≠ q13 := Ne.symm (hp_neN hu_s f14)
  rw [hu_n d14_13] at f14
  have d14_12 : q14 ≠ q12 := Ne.symm (hp_neN hu_s f14)
  rw [hu_n d14_12] at f14
  have d14_4 : q14 ≠ q4 := Ne.symm (hp_neN hu_s f14)
  rw [hu_n d14_4] at f14
  have d14_3 : q14 ≠ q3 := Ne.symm (hp_neN hu_s f14)
  rw [hu_n d14_3] at f14
  have d14_2 : q14 ≠ q2 := Ne.symm (hp_neN hu_s f14)
  rw [hu_n d14_2] at f14
  have d14_1 : q14 ≠ q1 := Ne.symm (hp_neN hu_s f14)
  rw [hu_n d14_1] at f14
  have d14_0 : q14 ≠ q0 := Ne.symm (hp_neN hu_s f14)
  rw [hu_n d14_0] at f14
  rw [hu_n (Ne.symm n15)] at f15
  have d15_14 : q15 ≠ q14 := Ne.symm (hp_neN hu_s f15)
  rw [hu_n d15_14] at f15
  have d15_13 : q15 ≠ q13 := Ne.symm (hp_neN hu_s f15)
  rw [hu_n d15_13] at f15
  have d15_12 : q15 ≠ q12 := Ne.symm (hp_neN hu_s f15)
  rw [hu_n d15_12] at f15
  have d15_4 : q15 ≠ q4 := Ne.symm (hp_neN hu_s f15)
  rw [hu_n d15_4] at f15
  have d15_3 : q15 ≠ q3 := Ne.symm (hp_neN hu_s f15)
  rw [hu_n d15_3] at f15
  have d15_2 : q15 ≠ q2 := Ne.symm (hp_neN hu_s f15)
  rw [hu_n d15_2] at f15
  have d15_1 : q15 ≠ q1 := Ne.symm (hp_neN hu_s f15)
  rw [hu_n d15_1] at f15
  have d15_0 : q15 ≠ q0 := Ne.symm (hp_neN hu_s f15)
  rw [hu_n d15_0] at f15
  obtain ⟨A, hA21, hA0, hA1, hA2, hA3, hA4, hA12, hA13, hA14, hA15⟩ : ∃ A : Nat → Nat, A 21 = a ∧ A 0 = q0 ∧ A 1 = q1 ∧ A 2 = q2 ∧ A 3 = q3 ∧ A 4 = q4 ∧ A 12 = q12 ∧ A 13 = q13 ∧ A 14 = q14 ∧ A 15 = q15 := ⟨fun k => match k with | 0 => q0 | 1 => q1 | 2 => q2 | 3 => q3 | 4 => q4 | 12 => q12 | 13 => q13 | 14 => q14 | 15 => q15 | _ => a, rfl, rfl, rfl, rfl, rfl, rfl, rfl, rfl, rfl, rfl⟩
  have hAA : mOK A := by
    intro i hi j hj e
    simp only [mAd, List.mem_cons, List.not_mem_nil, or_false] at hi hj
    rcases hi with rfl | rfl | rfl | rfl | rfl | rfl | rfl | rfl | rfl | rfl <;> rcases hj with rfl | rfl | rfl | rfl | rfl | rfl | rfl | rfl | rfl | rfl <;> simp only [hA21, hA0, hA1, hA2, hA3, hA4, hA12, hA13, hA14, hA15] at e <;> first | rfl | exact absurd e n0 | exact absurd e.symm n0 | exact absurd e n1 | exact absurd e.symm n1 | exact absurd e n2 | exact absurd e.symm n2 | exact absurd e n3 | exact absurd e.symm n3 | exact absurd e n4 | exact absurd e.symm n4 | exact absurd e n12 | exact absurd e.symm n12 | exact absurd e n13 | exact absurd e.symm n13 | exact absurd e n14 | exact absurd e.symm n14 | exact absurd e n15 | exact absurd e.symm n15 | exact absurd e d1_0 | exact absurd e.symm d1_0 | exact absurd e d2_0 | exact absurd e.symm d2_0 | exact absurd e d2_1 | exact absurd e.symm d2_1 | exact absurd e d3_0 | exact absurd e.symm d3_0 | exact absurd e d3_1 | exact absurd e.symm d3_1 | exact absurd e d3_2 | exact absurd e.symm d3_2 | exact absurd e d4_0 | exact absurd e.symm d4_0 | exact absurd e d4_1 | exact absurd e.symm d4_1 | exact absurd e d4_2 | exact absurd e.symm d4_2 | exact absurd e d4_3 | exact absurd e.symm d4_3 | exact absurd e d12_0 | exact absurd e.symm d12_0 | exact absurd e d12_1 | exact absurd e.symm d12_1 | exact absurd e d12_2 | exact absurd e.symm d12_2 | exact absurd e d12_3 | exact absurd e.symm d12_3 | exact absurd e d12_4 | exact absurd e.symm d12_4 | exact absurd e d13_0 | exact absurd e.symm d13_0 | exact absurd e d13_1 | exact absurd e.symm d13_1 | exact absurd e d13_2 | exact absurd e.symm d13_2 | exact absurd e d13_3 | exact absurd e.symm d13_3 | exact absurd e d13_4 | exact absurd e.symm d13_4 | exact absurd e d13_12 | exact absurd e.symm d13_12 | exact absurd e d14_0 | exact absurd e.symm d14_0 | exact absurd e d14_1 | exact absurd e.symm d14_1 | exact absurd e d14_2 | exact absurd e.symm d14_2 | exact absurd e d14_3 | exact absurd e.symm d14_3 | exact absurd e d14_4 | exact absurd e.symm d14_4 | exact absurd e d14_12 | exact absurd e.symm d14_12 | exact absurd e d14_13 | exact absurd e.symm d14_13 | exact absurd e d15_0 | exact absurd e.symm d15_0 | exact absurd e d15_1 | exact absurd e.symm d15_1 | exact absurd e d15_2 | exact absurd e.symm d15_2 | exact absurd e d15_3 | exact absurd e.symm d15_3 | exact absurd e d15_4 | exact absurd e.symm d15_4 | exact absurd e d15_12 | exact absurd e.symm d15_12 | exact absurd e d15_13 | exact absurd e.symm d15_13 | exact absurd e d15_14 | exact absurd e.symm d15_14
  refine ⟨rfl, A, hAA, hA21, fun k hk hk21 => ?_, ?_⟩
  · simp only [mAd, List.mem_cons, List.not_mem_nil, or_false] at hk
    rcases hk with rfl | rfl | rfl | rfl | rfl | rfl | rfl | rfl | rfl | rfl
    · exact absurd rfl hk21
    · rw [hA0]; exact f0
    · rw [hA1]; exact f1
    · rw [hA2]; exact f2
    · rw [hA3]; exact f3
    · rw [hA4]; exact f4
    · rw [hA12]; exact f12
    · rw [hA13]; exact f13
    · rw [hA14]; exact f14
    · rw [hA15]; exact f15
  · refine mW_of hAA (fun k hk => ?_) (fun q hq => ?_)
    · simp only [mAd, List.mem_cons, List.not_mem_nil, or_false] at hk
      rcases hk with rfl | rfl | rfl | rfl | rfl | rfl | rfl | rfl | rfl | rfl
      · rw [hA21, hu_s]; show _ = some (mO A mI0); unfold mO; rw [hA0, hA1, hA2, hA3, hA4, hA12, hA13, hA14, hA15]; rfl
      · rw [hA0, hu_n (Ne.symm n0), hu_n (Ne.symm d15_0), hu_n (Ne.symm d14_0), hu_n (Ne.symm d13_0), hu_n (Ne.symm d12_0), hu_n (Ne.symm d4_0), hu_n (Ne.symm d3_0), hu_n (Ne.symm d2_0), hu_n (Ne.symm d1_0), hu_s]; rfl
      · rw [hA1, hu_n (Ne.symm n1), hu_n (Ne.symm d15_1), hu_n (Ne.symm d14_1), hu_n (Ne.symm d13_1), hu_n (Ne.symm d12_1), hu_n (Ne.symm d4_1), hu_n (Ne.symm d3_1), hu_n (Ne.symm d2_1), hu_s]; rfl
      · rw [hA2, hu_n (Ne.symm n2), hu_n (Ne.symm d15_2), hu_n (Ne.symm d14_2), hu_n (Ne.symm d13_2), hu_n (Ne.symm d12_2), hu_n (Ne.symm d4_2), hu_n (Ne.symm d3_2), hu_s]; rfl
      · rw [hA3, hu_n (Ne.symm n3), hu_n (Ne.symm d15_3), hu_n (Ne.symm d14_3), hu_n (Ne.symm d13_3), hu_n (Ne.symm d12_3), hu_n (Ne.symm d4_3), hu_s]; rfl
      · rw [hA4, hu_n (Ne.symm n4), hu_n (Ne.symm d15_4), hu_n (Ne.symm d14_4), hu_n (Ne.symm d13_4), hu_n (Ne.symm d12_4), hu_s]; rfl
      · rw [hA12, hu_n (Ne.symm n12), hu_n (Ne.symm d15_12), hu_n (Ne.symm d14_12), hu_n (Ne.symm d13_12), hu_s]; rfl
      · rw [hA13, hu_n (Ne.symm n13), hu_n (Ne.symm d15_13), hu_n (Ne.symm d14_13), hu_s]; rfl
      · rw [hA14, hu_n (Ne.symm n14), hu_n (Ne.symm d15_14), hu_s]; rfl
      · rw [hA15, hu_n (Ne.symm n15), hu_s]; rfl
    · have hq21 : q ≠ a := hA21 ▸ hq 21 (by decide)
      have hq0 : q ≠ q0 := hA0 ▸ hq 0 (by decide)
      have hq1 : q ≠ q1 := hA1 ▸ hq 1 (by decide)
      have hq2 : q ≠ q2 := hA2 ▸ hq 2 (by decide)
      have hq3 : q ≠ q3 := hA3 ▸ hq 3 (by decide)
      have hq4 : q ≠ q4 := hA4 ▸ hq 4 (by decide)
      have hq12 : q ≠ q12 := hA12 ▸ hq 12 (by decide)
      have hq13 : q ≠ q13 := hA13 ▸ hq 13 (by decide)
      have hq14 : q ≠ q14 := hA14 ▸ hq 14 (by decide)
      have hq15 : q ≠ q15 := hA15 ▸ hq 15 (by decide)
      rw [hu_n hq21, hu_n hq15, hu_n hq14, hu_n hq13, hu_n hq12, hu_n hq4, hu_n hq3, hu_n hq2, hu_n hq1, hu_n hq0]
