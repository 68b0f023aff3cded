/-! TREEMAP, 2: the tree is set right behind an insertion (printed by tools/mk_tree2.py) -/
set_option maxRecDepth 100000
theorem fgJ1_101_13 : FGs "java/util/TreeMap" 101 13 3 := ⟨RJ1, TJ1, 9, RJ1, rfl, by decide, in_J1, Or.inl q168, Or.inl rfl⟩
theorem csJ1_294 : CSs "java/util/TreeMap" 294 yJ1_parentOf kJ1_parentOf 1 := ⟨q1376, q1377, q81, q1378, ⟨by decide, by decide⟩, rfl⟩
theorem csJ1_307 : CSs "java/util/TreeMap" 307 yJ1_setColor kJ1_setColor 2 := ⟨q1388, q1389, q81, q1390, ⟨by decide, by decide⟩, rfl⟩
theorem cvJ1_314_13 : CVs "java/util/TreeMap" 314 13 yJ1_rotateRight kJ1_rotateRight 1 := ⟨⟨TJ1, 9, rfl⟩, q1395, q1397, qs8, q81, q1398, ⟨by decide, by decide⟩, rfl⟩
theorem cvJ1_311_13 : CVs "java/util/TreeMap" 311 13 yJ1_rotateLeft kJ1_rotateLeft 1 := ⟨⟨TJ1, 9, rfl⟩, q1391, q1393, qs7, q81, q1394, ⟨by decide, by decide⟩, rfl⟩
theorem csJ1_300 : CSs "java/util/TreeMap" 300 yJ1_rightOf kJ1_rightOf 1 := ⟨q1382, q1383, q81, q1384, ⟨by decide, by decide⟩, rfl⟩
theorem csJ1_303 : CSs "java/util/TreeMap" 303 yJ1_colorOf kJ1_colorOf 1 := ⟨q1385, q1386, q81, q1387, ⟨by decide, by decide⟩, rfl⟩
theorem csJ1_297 : CSs "java/util/TreeMap" 297 yJ1_leftOf kJ1_leftOf 1 := ⟨q1379, q1380, q81, q1381, ⟨by decide, by decide⟩, rfl⟩
/-- a map in the heap, with its tree; beside it the heap is H0 -/
def tAll (H0 H : hp) (m : Nat) (w : Nat → Option Nat) (sz mo : Int32) (S : List Nat) (K V : Nat → Nat) (κ : Nat → Int) (L Rt P : LF) (C : Nat → Int32) (rt : Option Nat) (lo hi : Nat → Int) : Prop :=
  H m = some (tM w rt sz mo) ∧ tS H S K V L Rt P C ∧ TI S κ L Rt P rt lo hi ∧ okC C ∧ tF H0 H m S
section TA
variable {H0 H H' : hp} {m : Nat} {w : Nat → Option Nat} {sz mo : Int32} {S : List Nat} {K V : Nat → Nat} {κ : Nat → Int} {L Rt P L' Rt' P' : LF} {C : Nat → Int32} {rt rt' : Option Nat} {lo hi : Nat → Int}
theorem tAll.mS (a : tAll H0 H m w sz mo S K V κ L Rt P C rt lo hi) : m ∉ S := fun f => hp_ne a.1 (a.2.1 m f) (by decide) rfl
theorem tAll.color (a : tAll H0 H m w sz mo S K V κ L Rt P C rt lo hi) {o : Option Nat} {x : Int32} (hx : x = 0 ∨ x = 1) (h : tS H' S K V L Rt P (sC C o x) ∧ ∀ q, q ∉ S → H' q = H q) : tAll H0 H' m w sz mo S K V κ L Rt P (sC C o x) rt lo hi := by
  refine ⟨(h.2 m a.mS).trans a.1, h.1, a.2.2.1, ?_, fun q h1 h2 => (h.2 q h2).trans (a.2.2.2.2 q h1 h2)⟩
  cases o with
  | none => exact a.2.2.2.1
  | some e => exact a.2.2.2.1.fu hx
theorem tAll.rotL (a : tAll H0 H m w sz mo S K V κ L Rt P C rt lo hi) {p r : Nat} (pS : p ∈ S) (hr : Rt p = some r) (s : rotS L Rt P rt L' Rt' P' rt' p r) (hm : H' m = some (tM w rt' sz mo)) (ts : tS H' S K V L' Rt' P' C) (f : tF H H' m S) : tAll H0 H' m w sz mo S K V κ L' Rt' P' C rt' (fu lo r (lo p)) (fu hi p (κ r)) :=
  ⟨hm, ts, s.L a.2.2.1 pS hr, a.2.2.2.1, a.2.2.2.2.trans f⟩
theorem tAll.rotR (a : tAll H0 H m w sz mo S K V κ L Rt P C rt lo hi) {p r : Nat} (pS : p ∈ S) (hr : L p = some r) (s : rotS Rt L P rt Rt' L' P' rt' p r) (hm : H' m = some (tM w rt' sz mo)) (ts : tS H' S K V L' Rt' P' C) (f : tF H H' m S) : tAll H0 H' m w sz mo S K V κ L' Rt' P' C rt' (fu lo p (κ r)) (fu hi r (hi p)) :=
  ⟨hm, ts, s.R a.2.2.1 pS hr, a.2.2.2.1, a.2.2.2.2.trans f⟩
theorem TI.root {S : List Nat} {κ : Nat → Int} {L Rt P : LF} {rt : Option Nat} {lo hi : Nat → Int} (h : TI S κ L Rt P rt lo hi) {x : Nat} (hx : x ∈ S) : ∃ r, rt = some r := by
  cases hr : rt with
  | none => rw [h.2.2.2.2.2.2.2.1 hr] at hx; cases hx
  | some r => exact ⟨r, rfl⟩
theorem TI.LR {S : List Nat} {κ : Nat → Int} {L Rt P : LF} {rt : Option Nat} {lo hi : Nat → Int} (h : TI S κ L Rt P rt lo hi) {p x : Nat} (hp : p ∈ S) (h1 : L p = some x) : Rt p ≠ some x := fun h2 => by
  have a := h.Lm hp h1
  have b := h.Rm hp h2
  have c := h.bd hp
  omega
end TA
theorem inS_some {S : List Nat} {e : Nat} (h : e ∈ S) : inS S (some e) := fun x hx => by cases hx; exact h
theorem inS_none {S : List Nat} : inS S none := fun x hx => by cases hx
theorem TI.inL {S : List Nat} {κ : Nat → Int} {L Rt P : LF} {rt : Option Nat} {lo hi : Nat → Int} (h : TI S κ L Rt P rt lo hi) {e : Nat} (he : e ∈ S) : inS S (L e) := fun x hx => (h.Lm he hx).1
theorem TI.inR {S : List Nat} {κ : Nat → Int} {L Rt P : LF} {rt : Option Nat} {lo hi : Nat → Int} (h : TI S κ L Rt P rt lo hi) {e : Nat} (he : e ∈ S) : inS S (Rt e) := fun x hx => (h.Rm he hx).1
theorem TI.inP {S : List Nat} {κ : Nat → Int} {L Rt P : LF} {rt : Option Nat} {lo hi : Nat → Int} (h : TI S κ L Rt P rt lo hi) {e : Nat} (he : e ∈ S) : inS S (P e) := fun x hx => (h.Pm he hx).1
theorem mc_J1_fixAfterInsertion {l : Launch} (ht : l.stackTraces = false) {g : gT} {H0 H : hp} {m : Nat} {w : Nat → Option Nat} {sz mo : Int32} {S : List Nat} {K V : Nat → Nat} {κ : Nat → Int} {L Rt P : LF} {C : Nat → Int32} {rt : Option Nat} {lo hi : Nat → Int} (a0 : tAll H0 H m w sz mo S K V κ L Rt P C rt lo hi) {x : Nat} (xS : x ∈ S) : MM l g yJ1_fixAfterInsertion kJ1_fixAfterInsertion [.ref m, .ref x] (H) (pV fun h' => ∃ L' Rt' P' C' rt' lo' hi', tAll H0 h' m w sz mo S K V κ L' Rt' P' C' rt' lo' hi') (noX) (0) (0) := by
  refine MM.of (by decide) rfl rfl rfl (List.forall_mem_cons.mpr ⟨rfl, List.forall_mem_cons.mpr ⟨rfl, fun _ h => absurd h List.not_mem_nil⟩⟩) (Nat.le_of_ble_eq_true rfl) ht fun X => ?_
  show Wk _ _ _ _ _ _ _ _ _ [some (.ref m), some (.ref x), none] _ _
  refine Wk.gen fun PP hPP => ?_
  have out : ∀ (H1 : hp) (L1 R1 P1 : LF) (C1 : Nat → Int32) (rt1 : Option Nat) (lo1 hi1 : Nat → Int) (u1 u2 : Option Value) (x : Nat), x ∈ S → tAll H0 H1 m w sz mo S K V κ L1 R1 P1 C1 rt1 lo1 hi1 → Wk l g X kJ1_fixAfterInsertion PP noX 0 0 258 [some (.ref m), u1, u2] [] H1 := by
    intro H1 L1 R1 P1 C1 rt1 lo1 hi1 u1 u2 x xS a
    obtain ⟨r, hr⟩ := a.2.2.1.root xS
    have rS := (a.2.2.1.rm hr).1
    refine k_al0 dJ1_fixAfterInsertion_258 ?_
    refine k_g3 fgJ1_101_13 dJ1_fixAfterInsertion_259 a.1 ?_
    refine Wk.top (v' := .ref r) (by rw [hr]; rfl) ?_
    refine k_iconst (v := 1) dJ1_fixAfterInsertion_262 rfl ?_
    refine k_p5 fpJ1_290_14 dJ1_fixAfterInsertion_263 (a.2.1 r rS) rfl rfl ?_
    exact k_vret dJ1_fixAfterInsertion_266 rfl (by rw [hPP]; exact ⟨rfl, _, _, _, _, _, _, _, (a.2.1.me a.1 rS), a.2.1.pC rS, a.2.2.1, a.2.2.2.1.fu (Or.inr rfl), a.2.2.2.2.e rS⟩)
  have exit5 : ∀ (H1 : hp) (L1 R1 P1 : LF) (C1 : Nat → Int32) (rt1 : Option Nat) (lo1 hi1 : Nat → Int) (u2 : Option Value) (x p : Nat), x ∈ S → tAll H0 H1 m w sz mo S K V κ L1 R1 P1 C1 rt1 lo1 hi1 → P1 x = some p → C1 p = 1 → Wk l g X kJ1_fixAfterInsertion PP noX 0 0 5 [some (.ref m), some (.ref x), u2] [] H1 := by
    intro H1 L1 R1 P1 C1 rt1 lo1 hi1 u2 x p xS a hPx hC
    have pS := (a.2.2.1.Pm xS hPx).1
    refine k_al1 dJ1_fixAfterInsertion_5 ?_
    refine k_ifnullR dJ1_fixAfterInsertion_6 ?_
    refine k_al1 dJ1_fixAfterInsertion_9 ?_
    refine k_al0 dJ1_fixAfterInsertion_10 ?_
    refine k_g3 fgJ1_101_13 dJ1_fixAfterInsertion_11 a.1 ?_
    refine k_acmp_eq (rx := some x) (ry := rt1) (tgt := 258) dJ1_fixAfterInsertion_14 (by decide) (fun c_14 => ?_) (fun c_14 => ?_)
    · exact out _ _ _ _ _ _ _ _ _ _ _ xS a
    · skip
      refine k_al1 dJ1_fixAfterInsertion_17 ?_
      refine k_g4 fgJ1_124_14 dJ1_fixAfterInsertion_18 (a.2.1 x xS) ?_
      refine Wk.top (v' := .ref p) (by rw [hPx]; rfl) ?_
      refine k_g5 fgJ1_290_14 dJ1_fixAfterInsertion_21 (a.2.1 p pS) ?_
      refine k_if_ne (tgt := 258) dJ1_fixAfterInsertion_24 (by decide) (fun c_24 => ?_) (fun c_24 => absurd c_24 (show ¬ C1 p = 0 by rw [hC]; decide))
      exact out _ _ _ _ _ _ _ _ _ _ _ xS a
  have fin118 : ∀ (H1 : hp) (L1 R1 P1 : LF) (C1 : Nat → Int32) (rt1 : Option Nat) (lo1 hi1 : Nat → Int) (u2 : Option Value) (z r q : Nat), z ∈ S → tAll H0 H1 m w sz mo S K V κ L1 R1 P1 C1 rt1 lo1 hi1 → P1 z = some r → P1 r = some q → L1 q = some r → R1 r ≠ some z → Wk l g X kJ1_fixAfterInsertion PP noX 0 0 118 [some (.ref m), some (.ref z), u2] [] H1 := by
    intro H1 L1 R1 P1 C1 rt1 lo1 hi1 u2 z r q zS a hz hq hqr hne
    have rS := (a.2.2.1.Pm zS hz).1
    have qS := (a.2.2.1.Pm rS hq).1
    have B1 := a.2.2.1.bd zS
    have B2 := a.2.2.1.bd rS
    have B3 := a.2.2.1.bd qS
    have B4 := a.2.2.1.Lm qS hqr
    have nrq : r ≠ q := fun f => by subst f; omega
    have B5 : lo1 r ≤ lo1 z ∧ hi1 z ≤ hi1 r ∧ κ z ≠ κ r := by
      rcases (a.2.2.1.Pm zS hz).2 with c | c
      · have := a.2.2.1.Lm rS c; omega
      · have := a.2.2.1.Rm rS c; omega
    have nzr : z ≠ r := fun f => B5.2.2 (by rw [f])
    have nzq : z ≠ q := fun f => by subst f; omega
    refine k_al1 dJ1_fixAfterInsertion_118 ?_
    refine k_cSQ1 csJ1_294 dJ1_fixAfterInsertion_119 (mc_J1_parentOf ht a.2.1 (o := some z) (inS_some zS)) (Nat.le_of_eq (Nat.zero_add _)) (Nat.le_of_eq (Nat.zero_add _)) (fun r_119 h_119 e_119 => ?_)
    obtain ⟨rfl, rfl⟩ := e_119
    refine Wk.top (v' := va_rf (some r)) (congrArg va_rf (show P1 z = some r from hz)) ?_
    refine k_iconst (v := 1) dJ1_fixAfterInsertion_122 rfl ?_
    refine k_cSV2 csJ1_307 dJ1_fixAfterInsertion_123 (mc_J1_setColor ht a.2.1 (o := some r) (inS_some rS) (x := 1) (by decide)) (Nat.le_of_eq (Nat.zero_add _)) (Nat.le_of_eq (Nat.zero_add _)) (fun h_123 e_123 => ?_)
    replace a := a.color (by decide) e_123
    clear e_123
    refine k_al1 dJ1_fixAfterInsertion_126 ?_
    refine k_cSQ1 csJ1_294 dJ1_fixAfterInsertion_127 (mc_J1_parentOf ht a.2.1 (o := some z) (inS_some zS)) (Nat.le_of_eq (Nat.zero_add _)) (Nat.le_of_eq (Nat.zero_add _)) (fun r_127 h_127 e_127 => ?_)
    obtain ⟨rfl, rfl⟩ := e_127
    refine Wk.top (v' := va_rf (some r)) (congrArg va_rf (show P1 z = some r from hz)) ?_
    refine k_cSQ1 csJ1_294 dJ1_fixAfterInsertion_130 (mc_J1_parentOf ht a.2.1 (o := some r) (inS_some rS)) (Nat.le_of_eq (Nat.zero_add _)) (Nat.le_of_eq (Nat.zero_add _)) (fun r_130 h_130 e_130 => ?_)
    obtain ⟨rfl, rfl⟩ := e_130
    refine Wk.top (v' := va_rf (some q)) (congrArg va_rf (show P1 r = some q from hq)) ?_
    refine k_iconst (v := 0) dJ1_fixAfterInsertion_133 rfl ?_
    refine k_cSV2 csJ1_307 dJ1_fixAfterInsertion_134 (mc_J1_setColor ht a.2.1 (o := some q) (inS_some qS) (x := 0) (by decide)) (Nat.le_of_eq (Nat.zero_add _)) (Nat.le_of_eq (Nat.zero_add _)) (fun h_134 e_134 => ?_)
    replace a := a.color (by decide) e_134
    clear e_134
    refine k_al0 dJ1_fixAfterInsertion_137 ?_
    refine k_al1 dJ1_fixAfterInsertion_138 ?_
    refine k_cSQ1 csJ1_294 dJ1_fixAfterInsertion_139 (mc_J1_parentOf ht a.2.1 (o := some z) (inS_some zS)) (Nat.le_of_eq (Nat.zero_add _)) (Nat.le_of_eq (Nat.zero_add _)) (fun r_139 h_139 e_139 => ?_)
    obtain ⟨rfl, rfl⟩ := e_139
    refine Wk.top (v' := va_rf (some r)) (congrArg va_rf (show P1 z = some r from hz)) ?_
    refine k_cSQ1 csJ1_294 dJ1_fixAfterInsertion_142 (mc_J1_parentOf ht a.2.1 (o := some r) (inS_some rS)) (Nat.le_of_eq (Nat.zero_add _)) (Nat.le_of_eq (Nat.zero_add _)) (fun r_142 h_142 e_142 => ?_)
    obtain ⟨rfl, rfl⟩ := e_142
    refine Wk.top (v' := va_rf (some q)) (congrArg va_rf (show P1 r = some q from hq)) ?_
    refine k_cVV1 cvJ1_314_13 dJ1_fixAfterInsertion_145 (mc_J1_rotateRight ht a.2.1 a.1 a.2.2.1 qS hqr) a.1 (Nat.le_of_eq (Nat.zero_add _)) (Nat.le_of_eq (Nat.zero_add _)) (fun h_145 e_145 => ?_)
    obtain ⟨R2, L2, P2, rt2, s, k1, k2, k3⟩ := e_145
    replace a := a.rotR qS hqr s k1 k2 k3
    refine k_goto (tgt := 5) dJ1_fixAfterInsertion_148 (by decide) ?_
    refine exit5 _ _ _ _ _ _ _ _ _ z r zS a ?_ ?_
    · rw [s.2.2.2.2.2.2.2.2.2.1 z nzq nzr hne]; exact hz
    · show fu (fu C1 r 1) q 0 r = 1
      rw [fu_n nrq, fu_s]
  have fin225 : ∀ (H1 : hp) (L1 R1 P1 : LF) (C1 : Nat → Int32) (rt1 : Option Nat) (lo1 hi1 : Nat → Int) (u2 : Option Value) (z r q : Nat), z ∈ S → tAll H0 H1 m w sz mo S K V κ L1 R1 P1 C1 rt1 lo1 hi1 → P1 z = some r → P1 r = some q → R1 q = some r → L1 r ≠ some z → Wk l g X kJ1_fixAfterInsertion PP noX 0 0 225 [some (.ref m), some (.ref z), u2] [] H1 := by
    intro H1 L1 R1 P1 C1 rt1 lo1 hi1 u2 z r q zS a hz hq hqr hne
    have rS := (a.2.2.1.Pm zS hz).1
    have qS := (a.2.2.1.Pm rS hq).1
    have B1 := a.2.2.1.bd zS
    have B2 := a.2.2.1.bd rS
    have B3 := a.2.2.1.bd qS
    have B4 := a.2.2.1.Rm qS hqr
    have nrq : r ≠ q := fun f => by subst f; omega
    have B5 : lo1 r ≤ lo1 z ∧ hi1 z ≤ hi1 r ∧ κ z ≠ κ r := by
      rcases (a.2.2.1.Pm zS hz).2 with c | c
      · have := a.2.2.1.Lm rS c; omega
      · have := a.2.2.1.Rm rS c; omega
    have nzr : z ≠ r := fun f => B5.2.2 (by rw [f])
    have nzq : z ≠ q := fun f => by subst f; omega
    refine k_al1 dJ1_fixAfterInsertion_225 ?_
    refine k_cSQ1 csJ1_294 dJ1_fixAfterInsertion_226 (mc_J1_parentOf ht a.2.1 (o := some z) (inS_some zS)) (Nat.le_of_eq (Nat.zero_add _)) (Nat.le_of_eq (Nat.zero_add _)) (fun r_226 h_226 e_226 => ?_)
    obtain ⟨rfl, rfl⟩ := e_226
    refine Wk.top (v' := va_rf (some r)) (congrArg va_rf (show P1 z = some r from hz)) ?_
    refine k_iconst (v := 1) dJ1_fixAfterInsertion_229 rfl ?_
    refine k_cSV2 csJ1_307 dJ1_fixAfterInsertion_230 (mc_J1_setColor ht a.2.1 (o := some r) (inS_some rS) (x := 1) (by decide)) (Nat.le_of_eq (Nat.zero_add _)) (Nat.le_of_eq (Nat.zero_add _)) (fun h_230 e_230 => ?_)
    replace a := a.color (by decide) e_230
    clear e_230
    refine k_al1 dJ1_fixAfterInsertion_233 ?_
    refine k_cSQ1 csJ1_294 dJ1_fixAfterInsertion_234 (mc_J1_parentOf ht a.2.1 (o := some z) (inS_some zS)) (Nat.le_of_eq (Nat.zero_add _)) (Nat.le_of_eq (Nat.zero_add _)) (fun r_234 h_234 e_234 => ?_)
    obtain ⟨rfl, rfl⟩ := e_234
    refine Wk.top (v' := va_rf (some r)) (congrArg va_rf (show P1 z = some r from hz)) ?_
    refine k_cSQ1 csJ1_294 dJ1_fixAfterInsertion_237 (mc_J1_parentOf ht a.2.1 (o := some r) (inS_some rS)) (Nat.le_of_eq (Nat.zero_add _)) (Nat.le_of_eq (Nat.zero_add _)) (fun r_237 h_237 e_237 => ?_)
    obtain ⟨rfl, rfl⟩ := e_237
    refine Wk.top (v' := va_rf (some q)) (congrArg va_rf (show P1 r = some q from hq)) ?_
    refine k_iconst (v := 0) dJ1_fixAfterInsertion_240 rfl ?_
    refine k_cSV2 csJ1_307 dJ1_fixAfterInsertion_241 (mc_J1_setColor ht a.2.1 (o := some q) (inS_some qS) (x := 0) (by decide)) (Nat.le_of_eq (Nat.zero_add _)) (Nat.le_of_eq (Nat.zero_add _)) (fun h_241 e_241 => ?_)
    replace a := a.color (by decide) e_241
    clear e_241
    refine k_al0 dJ1_fixAfterInsertion_244 ?_
    refine k_al1 dJ1_fixAfterInsertion_245 ?_
    refine k_cSQ1 csJ1_294 dJ1_fixAfterInsertion_246 (mc_J1_parentOf ht a.2.1 (o := some z) (inS_some zS)) (Nat.le_of_eq (Nat.zero_add _)) (Nat.le_of_eq (Nat.zero_add _)) (fun r_246 h_246 e_246 => ?_)
    obtain ⟨rfl, rfl⟩ := e_246
    refine Wk.top (v' := va_rf (some r)) (congrArg va_rf (show P1 z = some r from hz)) ?_
    refine k_cSQ1 csJ1_294 dJ1_fixAfterInsertion_249 (mc_J1_parentOf ht a.2.1 (o := some r) (inS_some rS)) (Nat.le_of_eq (Nat.zero_add _)) (Nat.le_of_eq (Nat.zero_add _)) (fun r_249 h_249 e_249 => ?_)
    obtain ⟨rfl, rfl⟩ := e_249
    refine Wk.top (v' := va_rf (some q)) (congrArg va_rf (show P1 r = some q from hq)) ?_
    refine k_cVV1 cvJ1_311_13 dJ1_fixAfterInsertion_252 (mc_J1_rotateLeft ht a.2.1 a.1 a.2.2.1 qS hqr) a.1 (Nat.le_of_eq (Nat.zero_add _)) (Nat.le_of_eq (Nat.zero_add _)) (fun h_252 e_252 => ?_)
    obtain ⟨L2, R2, P2, rt2, s, k1, k2, k3⟩ := e_252
    replace a := a.rotL qS hqr s k1 k2 k3
    refine k_goto (tgt := 5) dJ1_fixAfterInsertion_255 (by decide) ?_
    refine exit5 _ _ _ _ _ _ _ _ _ z r zS a ?_ ?_
    · rw [s.2.2.2.2.2.2.2.2.2.1 z nzq nzr hne]; exact hz
    · show fu (fu C1 r 1) q 0 r = 1
      rw [fu_n nrq, fu_s]
  have fin225N : ∀ (H1 : hp) (L1 R1 P1 : LF) (C1 : Nat → Int32) (rt1 : Option Nat) (lo1 hi1 : Nat → Int) (u2 : Option Value) (z r : Nat), z ∈ S → tAll H0 H1 m w sz mo S K V κ L1 R1 P1 C1 rt1 lo1 hi1 → P1 z = some r → P1 r = none → Wk l g X kJ1_fixAfterInsertion PP noX 0 0 225 [some (.ref m), some (.ref z), u2] [] H1 := by
    intro H1 L1 R1 P1 C1 rt1 lo1 hi1 u2 z r zS a hz hq
    have rS := (a.2.2.1.Pm zS hz).1
    refine k_al1 dJ1_fixAfterInsertion_225 ?_
    refine k_cSQ1 csJ1_294 dJ1_fixAfterInsertion_226 (mc_J1_parentOf ht a.2.1 (o := some z) (inS_some zS)) (Nat.le_of_eq (Nat.zero_add _)) (Nat.le_of_eq (Nat.zero_add _)) (fun r_226 h_226 e_226 => ?_)
    obtain ⟨rfl, rfl⟩ := e_226
    refine Wk.top (v' := va_rf (some r)) (congrArg va_rf (show P1 z = some r from hz)) ?_
    refine k_iconst (v := 1) dJ1_fixAfterInsertion_229 rfl ?_
    refine k_cSV2 csJ1_307 dJ1_fixAfterInsertion_230 (mc_J1_setColor ht a.2.1 (o := some r) (inS_some rS) (x := 1) (by decide)) (Nat.le_of_eq (Nat.zero_add _)) (Nat.le_of_eq (Nat.zero_add _)) (fun h_230 e_230 => ?_)
    replace a := a.color (by decide) e_230
    clear e_230
    refine k_al1 dJ1_fixAfterInsertion_233 ?_
    refine k_cSQ1 csJ1_294 dJ1_fixAfterInsertion_234 (mc_J1_parentOf ht a.2.1 (o := some z) (inS_some zS)) (Nat.le_of_eq (Nat.zero_add _)) (Nat.le_of_eq (Nat.zero_add _)) (fun r_234 h_234 e_234 => ?_)
    obtain ⟨rfl, rfl⟩ := e_234
    refine Wk.top (v' := va_rf (some r)) (congrArg va_rf (show P1 z = some r from hz)) ?_
    refine k_cSQ1 csJ1_294 dJ1_fixAfterInsertion_237 (mc_J1_parentOf ht a.2.1 (o := some r) (inS_some rS)) (Nat.le_of_eq (Nat.zero_add _)) (Nat.le_of_eq (Nat.zero_add _)) (fun r_237 h_237 e_237 => ?_)
    obtain ⟨rfl, rfl⟩ := e_237
    refine Wk.top (v' := va_rf (none)) (congrArg va_rf (show P1 r = none from hq)) ?_
    refine k_iconst (v := 0) dJ1_fixAfterInsertion_240 rfl ?_
    refine k_cSV2 csJ1_307 dJ1_fixAfterInsertion_241 (mc_J1_setColor ht a.2.1 (o := none) inS_none (x := 0) (by decide)) (Nat.le_of_eq (Nat.zero_add _)) (Nat.le_of_eq (Nat.zero_add _)) (fun h_241 e_241 => ?_)
    replace a := a.color (by decide) e_241
    clear e_241
    refine k_al0 dJ1_fixAfterInsertion_244 ?_
    refine k_al1 dJ1_fixAfterInsertion_245 ?_
    refine k_cSQ1 csJ1_294 dJ1_fixAfterInsertion_246 (mc_J1_parentOf ht a.2.1 (o := some z) (inS_some zS)) (Nat.le_of_eq (Nat.zero_add _)) (Nat.le_of_eq (Nat.zero_add _)) (fun r_246 h_246 e_246 => ?_)
    obtain ⟨rfl, rfl⟩ := e_246
    refine Wk.top (v' := va_rf (some r)) (congrArg va_rf (show P1 z = some r from hz)) ?_
    refine k_cSQ1 csJ1_294 dJ1_fixAfterInsertion_249 (mc_J1_parentOf ht a.2.1 (o := some r) (inS_some rS)) (Nat.le_of_eq (Nat.zero_add _)) (Nat.le_of_eq (Nat.zero_add _)) (fun r_249 h_249 e_249 => ?_)
    obtain ⟨rfl, rfl⟩ := e_249
    refine Wk.top (v' := va_rf (none)) (congrArg va_rf (show P1 r = none from hq)) ?_
    refine k_cVV1 cvJ1_311_13 dJ1_fixAfterInsertion_252 (mc_J1_rotateLeftN ht) a.1 (Nat.le_of_eq (Nat.zero_add _)) (Nat.le_of_eq (Nat.zero_add _)) (fun h_252 e_252 => ?_)
    subst e_252
    refine k_goto (tgt := 5) dJ1_fixAfterInsertion_255 (by decide) ?_
    exact exit5 _ _ _ _ _ _ _ _ _ z r zS a hz fu_s
  have loop : ∀ n, ∀ (H1 : hp) (L1 R1 P1 : LF) (C1 : Nat → Int32) (rt1 : Option Nat) (lo1 hi1 : Nat → Int) (u2 : Option Value) (x : Nat), x ∈ S → tAll H0 H1 m w sz mo S K V κ L1 R1 P1 C1 rt1 lo1 hi1 → (2199023255552 - (hi1 x - lo1 x)).toNat = n → Wk l g X kJ1_fixAfterInsertion PP noX 0 0 5 [some (.ref m), some (.ref x), u2] [] H1 := by
    intro n
    induction n using Nat.strongRecOn with
    | ind n ih =>
      intro H1 L1 R1 P1 C1 rt1 lo1 hi1 u2 x xS a hn
      refine k_al1 dJ1_fixAfterInsertion_5 ?_
      refine k_ifnullR dJ1_fixAfterInsertion_6 ?_
      refine k_al1 dJ1_fixAfterInsertion_9 ?_
      refine k_al0 dJ1_fixAfterInsertion_10 ?_
      refine k_g3 fgJ1_101_13 dJ1_fixAfterInsertion_11 a.1 ?_
      refine k_acmp_eq (rx := some x) (ry := rt1) (tgt := 258) dJ1_fixAfterInsertion_14 (by decide) (fun c_14 => ?_) (fun c_14 => ?_)
      · exact out _ _ _ _ _ _ _ _ _ _ _ xS a
      · obtain ⟨p, hPx⟩ : ∃ p, P1 x = some p := by
          cases hp : P1 x with
          | none => exact absurd (a.2.2.1.2.2.2.2.2.1 x xS hp).symm c_14
          | some p => exact ⟨p, rfl⟩
        have pS := (a.2.2.1.Pm xS hPx).1
        refine k_al1 dJ1_fixAfterInsertion_17 ?_
        refine k_g4 fgJ1_124_14 dJ1_fixAfterInsertion_18 (a.2.1 x xS) ?_
        refine Wk.top (v' := .ref p) (by rw [hPx]; rfl) ?_
        refine k_g5 fgJ1_290_14 dJ1_fixAfterInsertion_21 (a.2.1 p pS) ?_
        refine k_if_ne (tgt := 258) dJ1_fixAfterInsertion_24 (by decide) (fun c_24 => ?_) (fun c_24 => ?_)
        · exact out _ _ _ _ _ _ _ _ _ _ _ xS a
        · cases hq : P1 p with
          | none =>
            refine k_al1 dJ1_fixAfterInsertion_27 ?_
            refine k_cSQ1 csJ1_294 dJ1_fixAfterInsertion_28 (mc_J1_parentOf ht a.2.1 (o := some x) (inS_some xS)) (Nat.le_of_eq (Nat.zero_add _)) (Nat.le_of_eq (Nat.zero_add _)) (fun r_28 h_28 e_28 => ?_)
            obtain ⟨rfl, rfl⟩ := e_28
            refine Wk.top (v' := va_rf (some p)) (congrArg va_rf (show P1 x = some p from hPx)) ?_
            refine k_al1 dJ1_fixAfterInsertion_31 ?_
            refine k_cSQ1 csJ1_294 dJ1_fixAfterInsertion_32 (mc_J1_parentOf ht a.2.1 (o := some x) (inS_some xS)) (Nat.le_of_eq (Nat.zero_add _)) (Nat.le_of_eq (Nat.zero_add _)) (fun r_32 h_32 e_32 => ?_)
            obtain ⟨rfl, rfl⟩ := e_32
            refine Wk.top (v' := va_rf (some p)) (congrArg va_rf (show P1 x = some p from hPx)) ?_
            refine k_cSQ1 csJ1_294 dJ1_fixAfterInsertion_35 (mc_J1_parentOf ht a.2.1 (o := some p) (inS_some pS)) (Nat.le_of_eq (Nat.zero_add _)) (Nat.le_of_eq (Nat.zero_add _)) (fun r_35 h_35 e_35 => ?_)
            obtain ⟨rfl, rfl⟩ := e_35
            refine Wk.top (v' := va_rf (none)) (congrArg va_rf (show P1 p = none from hq)) ?_
            refine k_cSQ1 csJ1_297 dJ1_fixAfterInsertion_38 (mc_J1_leftOf ht a.2.1 (o := none) inS_none) (Nat.le_of_eq (Nat.zero_add _)) (Nat.le_of_eq (Nat.zero_add _)) (fun r_38 h_38 e_38 => ?_)
            obtain ⟨rfl, rfl⟩ := e_38
            refine Wk.top (v' := va_rf (none)) (congrArg va_rf (rfl)) ?_
            refine k_acmp_ne (rx := some p) (ry := none) (tgt := 151) dJ1_fixAfterInsertion_41 (by decide) (fun c_41 => ?_) (fun c_41 => ?_)
            · skip
              refine k_al1 dJ1_fixAfterInsertion_151 ?_
              refine k_cSQ1 csJ1_294 dJ1_fixAfterInsertion_152 (mc_J1_parentOf ht a.2.1 (o := some x) (inS_some xS)) (Nat.le_of_eq (Nat.zero_add _)) (Nat.le_of_eq (Nat.zero_add _)) (fun r_152 h_152 e_152 => ?_)
              obtain ⟨rfl, rfl⟩ := e_152
              refine Wk.top (v' := va_rf (some p)) (congrArg va_rf (show P1 x = some p from hPx)) ?_
              refine k_cSQ1 csJ1_294 dJ1_fixAfterInsertion_155 (mc_J1_parentOf ht a.2.1 (o := some p) (inS_some pS)) (Nat.le_of_eq (Nat.zero_add _)) (Nat.le_of_eq (Nat.zero_add _)) (fun r_155 h_155 e_155 => ?_)
              obtain ⟨rfl, rfl⟩ := e_155
              refine Wk.top (v' := va_rf (none)) (congrArg va_rf (show P1 p = none from hq)) ?_
              refine k_cSQ1 csJ1_297 dJ1_fixAfterInsertion_158 (mc_J1_leftOf ht a.2.1 (o := none) inS_none) (Nat.le_of_eq (Nat.zero_add _)) (Nat.le_of_eq (Nat.zero_add _)) (fun r_158 h_158 e_158 => ?_)
              obtain ⟨rfl, rfl⟩ := e_158
              refine Wk.top (v' := va_rf (none)) (congrArg va_rf (rfl)) ?_
              refine k_as2 dJ1_fixAfterInsertion_161 (Nat.le_of_ble_eq_true rfl) ?_
              refine k_al2 dJ1_fixAfterInsertion_162 ?_
              refine k_cSI1 csJ1_303 dJ1_fixAfterInsertion_163 (mc_J1_colorOf ht a.2.1 a.2.2.2.1 (o := none) inS_none) (Nat.le_of_eq (Nat.zero_add _)) (Nat.le_of_eq (Nat.zero_add _)) (fun r_163 h_163 e_163 => ?_)
              obtain ⟨rfl, rfl⟩ := e_163
              refine k_if_ne (tgt := 204) dJ1_fixAfterInsertion_166 (by decide) (fun c_166 => ?_) (fun c_166 => absurd c_166 (show ¬ (1 : Int32) = 0 by decide))
              refine k_al1 dJ1_fixAfterInsertion_204 ?_
              refine k_al1 dJ1_fixAfterInsertion_205 ?_
              refine k_cSQ1 csJ1_294 dJ1_fixAfterInsertion_206 (mc_J1_parentOf ht a.2.1 (o := some x) (inS_some xS)) (Nat.le_of_eq (Nat.zero_add _)) (Nat.le_of_eq (Nat.zero_add _)) (fun r_206 h_206 e_206 => ?_)
              obtain ⟨rfl, rfl⟩ := e_206
              refine Wk.top (v' := va_rf (some p)) (congrArg va_rf (show P1 x = some p from hPx)) ?_
              refine k_cSQ1 csJ1_297 dJ1_fixAfterInsertion_209 (mc_J1_leftOf ht a.2.1 (o := some p) (inS_some pS)) (Nat.le_of_eq (Nat.zero_add _)) (Nat.le_of_eq (Nat.zero_add _)) (fun r_209 h_209 e_209 => ?_)
              obtain ⟨rfl, rfl⟩ := e_209
              refine Wk.top (v' := va_rf (L1 p)) (congrArg va_rf (rfl)) ?_
              refine k_acmp_ne (rx := some x) (ry := L1 p) (tgt := 225) dJ1_fixAfterInsertion_212 (by decide) (fun c_212 => ?_) (fun c_212 => ?_)
              · exact fin225N _ _ _ _ _ _ _ _ _ x p xS a hPx hq
              · have hxr : L1 p = some x := c_212.symm
                refine k_al1 dJ1_fixAfterInsertion_215 ?_
                refine k_cSQ1 csJ1_294 dJ1_fixAfterInsertion_216 (mc_J1_parentOf ht a.2.1 (o := some x) (inS_some xS)) (Nat.le_of_eq (Nat.zero_add _)) (Nat.le_of_eq (Nat.zero_add _)) (fun r_216 h_216 e_216 => ?_)
                obtain ⟨rfl, rfl⟩ := e_216
                refine Wk.top (v' := va_rf (some p)) (congrArg va_rf (show P1 x = some p from hPx)) ?_
                refine k_as1 dJ1_fixAfterInsertion_219 (Nat.le_of_ble_eq_true rfl) ?_
                refine k_al0 dJ1_fixAfterInsertion_220 ?_
                refine k_al1 dJ1_fixAfterInsertion_221 ?_
                refine k_cVV1 cvJ1_314_13 dJ1_fixAfterInsertion_222 (mc_J1_rotateRight ht a.2.1 a.1 a.2.2.1 pS hxr) a.1 (Nat.le_of_eq (Nat.zero_add _)) (Nat.le_of_eq (Nat.zero_add _)) (fun h_222 e_222 => ?_)
                obtain ⟨R2, L2, P2, rt2, s, k1, k2, k3⟩ := e_222
                have a2 := a.rotR pS hxr s k1 k2 k3
                exact fin225N _ _ _ _ _ _ _ _ _ p x pS a2 s.2.2.2.2.2.2.1 (s.2.2.2.2.2.2.2.1.trans hq)
            · cases c_41
          | some q =>
            refine k_al1 dJ1_fixAfterInsertion_27 ?_
            refine k_cSQ1 csJ1_294 dJ1_fixAfterInsertion_28 (mc_J1_parentOf ht a.2.1 (o := some x) (inS_some xS)) (Nat.le_of_eq (Nat.zero_add _)) (Nat.le_of_eq (Nat.zero_add _)) (fun r_28 h_28 e_28 => ?_)
            obtain ⟨rfl, rfl⟩ := e_28
            refine Wk.top (v' := va_rf (some p)) (congrArg va_rf (show P1 x = some p from hPx)) ?_
            refine k_al1 dJ1_fixAfterInsertion_31 ?_
            refine k_cSQ1 csJ1_294 dJ1_fixAfterInsertion_32 (mc_J1_parentOf ht a.2.1 (o := some x) (inS_some xS)) (Nat.le_of_eq (Nat.zero_add _)) (Nat.le_of_eq (Nat.zero_add _)) (fun r_32 h_32 e_32 => ?_)
            obtain ⟨rfl, rfl⟩ := e_32
            refine Wk.top (v' := va_rf (some p)) (congrArg va_rf (show P1 x = some p from hPx)) ?_
            refine k_cSQ1 csJ1_294 dJ1_fixAfterInsertion_35 (mc_J1_parentOf ht a.2.1 (o := some p) (inS_some pS)) (Nat.le_of_eq (Nat.zero_add _)) (Nat.le_of_eq (Nat.zero_add _)) (fun r_35 h_35 e_35 => ?_)
            obtain ⟨rfl, rfl⟩ := e_35
            refine Wk.top (v' := va_rf (some q)) (congrArg va_rf (show P1 p = some q from hq)) ?_
            refine k_cSQ1 csJ1_297 dJ1_fixAfterInsertion_38 (mc_J1_leftOf ht a.2.1 (o := some q) (inS_some ((a.2.2.1.Pm pS hq).1))) (Nat.le_of_eq (Nat.zero_add _)) (Nat.le_of_eq (Nat.zero_add _)) (fun r_38 h_38 e_38 => ?_)
            obtain ⟨rfl, rfl⟩ := e_38
            refine Wk.top (v' := va_rf (L1 q)) (congrArg va_rf (rfl)) ?_
            refine k_acmp_ne (rx := some p) (ry := L1 q) (tgt := 151) dJ1_fixAfterInsertion_41 (by decide) (fun c_41 => ?_) (fun c_41 => ?_)
            · have hnl : L1 q ≠ some p := fun f => c_41 f.symm
              have qS := (a.2.2.1.Pm pS hq).1
              have Bx := a.2.2.1.bd xS
              have Bp := a.2.2.1.bd pS
              have Bq := a.2.2.1.bd qS
              have Bpx : lo1 p ≤ lo1 x ∧ hi1 x ≤ hi1 p ∧ κ x ≠ κ p := by
                rcases (a.2.2.1.Pm xS hPx).2 with c | c
                · have := a.2.2.1.Lm pS c; omega
                · have := a.2.2.1.Rm pS c; omega
              have hqp : R1 q = some p := by
                rcases (a.2.2.1.Pm pS hq).2 with c | c
                · exact absurd c hnl
                · exact c
              have Bqp := a.2.2.1.Rm qS hqp
              have nqx : q ≠ x := fun f => by subst f; omega
              refine k_al1 dJ1_fixAfterInsertion_151 ?_
              refine k_cSQ1 csJ1_294 dJ1_fixAfterInsertion_152 (mc_J1_parentOf ht a.2.1 (o := some x) (inS_some xS)) (Nat.le_of_eq (Nat.zero_add _)) (Nat.le_of_eq (Nat.zero_add _)) (fun r_152 h_152 e_152 => ?_)
              obtain ⟨rfl, rfl⟩ := e_152
              refine Wk.top (v' := va_rf (some p)) (congrArg va_rf (show P1 x = some p from hPx)) ?_
              refine k_cSQ1 csJ1_294 dJ1_fixAfterInsertion_155 (mc_J1_parentOf ht a.2.1 (o := some p) (inS_some pS)) (Nat.le_of_eq (Nat.zero_add _)) (Nat.le_of_eq (Nat.zero_add _)) (fun r_155 h_155 e_155 => ?_)
              obtain ⟨rfl, rfl⟩ := e_155
              refine Wk.top (v' := va_rf (some q)) (congrArg va_rf (show P1 p = some q from hq)) ?_
              refine k_cSQ1 csJ1_297 dJ1_fixAfterInsertion_158 (mc_J1_leftOf ht a.2.1 (o := some q) (inS_some qS)) (Nat.le_of_eq (Nat.zero_add _)) (Nat.le_of_eq (Nat.zero_add _)) (fun r_158 h_158 e_158 => ?_)
              obtain ⟨rfl, rfl⟩ := e_158
              refine Wk.top (v' := va_rf (L1 q)) (congrArg va_rf (rfl)) ?_
              refine k_as2 dJ1_fixAfterInsertion_161 (Nat.le_of_ble_eq_true rfl) ?_
              refine k_al2 dJ1_fixAfterInsertion_162 ?_
              refine k_cSI1 csJ1_303 dJ1_fixAfterInsertion_163 (mc_J1_colorOf ht a.2.1 a.2.2.2.1 (o := L1 q) (a.2.2.1.inL qS)) (Nat.le_of_eq (Nat.zero_add _)) (Nat.le_of_eq (Nat.zero_add _)) (fun r_163 h_163 e_163 => ?_)
              obtain ⟨rfl, rfl⟩ := e_163
              refine k_if_ne (tgt := 204) dJ1_fixAfterInsertion_166 (by decide) (fun c_166 => ?_) (fun c_166 => ?_)
              · skip
                refine k_al1 dJ1_fixAfterInsertion_204 ?_
                refine k_al1 dJ1_fixAfterInsertion_205 ?_
                refine k_cSQ1 csJ1_294 dJ1_fixAfterInsertion_206 (mc_J1_parentOf ht a.2.1 (o := some x) (inS_some xS)) (Nat.le_of_eq (Nat.zero_add _)) (Nat.le_of_eq (Nat.zero_add _)) (fun r_206 h_206 e_206 => ?_)
                obtain ⟨rfl, rfl⟩ := e_206
                refine Wk.top (v' := va_rf (some p)) (congrArg va_rf (show P1 x = some p from hPx)) ?_
                refine k_cSQ1 csJ1_297 dJ1_fixAfterInsertion_209 (mc_J1_leftOf ht a.2.1 (o := some p) (inS_some pS)) (Nat.le_of_eq (Nat.zero_add _)) (Nat.le_of_eq (Nat.zero_add _)) (fun r_209 h_209 e_209 => ?_)
                obtain ⟨rfl, rfl⟩ := e_209
                refine Wk.top (v' := va_rf (L1 p)) (congrArg va_rf (rfl)) ?_
                refine k_acmp_ne (rx := some x) (ry := L1 p) (tgt := 225) dJ1_fixAfterInsertion_212 (by decide) (fun c_212 => ?_) (fun c_212 => ?_)
                · exact fin225 _ _ _ _ _ _ _ _ _ x p q xS a hPx hq hqp (fun f => c_212 f.symm)
                · have hxr : L1 p = some x := c_212.symm
                  refine k_al1 dJ1_fixAfterInsertion_215 ?_
                  refine k_cSQ1 csJ1_294 dJ1_fixAfterInsertion_216 (mc_J1_parentOf ht a.2.1 (o := some x) (inS_some xS)) (Nat.le_of_eq (Nat.zero_add _)) (Nat.le_of_eq (Nat.zero_add _)) (fun r_216 h_216 e_216 => ?_)
                  obtain ⟨rfl, rfl⟩ := e_216
                  refine Wk.top (v' := va_rf (some p)) (congrArg va_rf (show P1 x = some p from hPx)) ?_
                  refine k_as1 dJ1_fixAfterInsertion_219 (Nat.le_of_ble_eq_true rfl) ?_
                  refine k_al0 dJ1_fixAfterInsertion_220 ?_
                  refine k_al1 dJ1_fixAfterInsertion_221 ?_
                  refine k_cVV1 cvJ1_314_13 dJ1_fixAfterInsertion_222 (mc_J1_rotateRight ht a.2.1 a.1 a.2.2.1 pS hxr) a.1 (Nat.le_of_eq (Nat.zero_add _)) (Nat.le_of_eq (Nat.zero_add _)) (fun h_222 e_222 => ?_)
                  obtain ⟨R2, L2, P2, rt2, s, k1, k2, k3⟩ := e_222
                  have a2 := a.rotR pS hxr s k1 k2 k3
                  have hl2 : R2 q = some x := s.2.1 q nqx hq hqp
                  exact fin225 _ _ _ _ _ _ _ _ _ p x q pS a2 s.2.2.2.2.2.2.1 (s.2.2.2.2.2.2.2.1.trans hq) hl2 (fun f => absurd s.1 (a2.2.2.1.LR xS f))
              · obtain ⟨y, hy⟩ : ∃ y, L1 q = some y := by
                  cases hy : L1 q with
                  | none => rw [hy] at c_166; exact absurd (show (1 : Int32) = 0 from c_166) (by decide)
                  | some y => exact ⟨y, rfl⟩
                have yS := (a.2.2.1.Lm qS hy).1
                rw [hy]
                refine k_al1 dJ1_fixAfterInsertion_169 ?_
                refine k_cSQ1 csJ1_294 dJ1_fixAfterInsertion_170 (mc_J1_parentOf ht a.2.1 (o := some x) (inS_some xS)) (Nat.le_of_eq (Nat.zero_add _)) (Nat.le_of_eq (Nat.zero_add _)) (fun r_170 h_170 e_170 => ?_)
                obtain ⟨rfl, rfl⟩ := e_170
                refine Wk.top (v' := va_rf (some p)) (congrArg va_rf (show P1 x = some p from hPx)) ?_
                refine k_iconst (v := 1) dJ1_fixAfterInsertion_173 rfl ?_
                refine k_cSV2 csJ1_307 dJ1_fixAfterInsertion_174 (mc_J1_setColor ht a.2.1 (o := some p) (inS_some pS) (x := 1) (by decide)) (Nat.le_of_eq (Nat.zero_add _)) (Nat.le_of_eq (Nat.zero_add _)) (fun h_174 e_174 => ?_)
                replace a := a.color (by decide) e_174
                clear e_174
                refine k_al2 dJ1_fixAfterInsertion_177 ?_
                refine k_iconst (v := 1) dJ1_fixAfterInsertion_178 rfl ?_
                refine k_cSV2 csJ1_307 dJ1_fixAfterInsertion_179 (mc_J1_setColor ht a.2.1 (o := some y) (inS_some yS) (x := 1) (by decide)) (Nat.le_of_eq (Nat.zero_add _)) (Nat.le_of_eq (Nat.zero_add _)) (fun h_179 e_179 => ?_)
                replace a := a.color (by decide) e_179
                clear e_179
                refine k_al1 dJ1_fixAfterInsertion_182 ?_
                refine k_cSQ1 csJ1_294 dJ1_fixAfterInsertion_183 (mc_J1_parentOf ht a.2.1 (o := some x) (inS_some xS)) (Nat.le_of_eq (Nat.zero_add _)) (Nat.le_of_eq (Nat.zero_add _)) (fun r_183 h_183 e_183 => ?_)
                obtain ⟨rfl, rfl⟩ := e_183
                refine Wk.top (v' := va_rf (some p)) (congrArg va_rf (show P1 x = some p from hPx)) ?_
                refine k_cSQ1 csJ1_294 dJ1_fixAfterInsertion_186 (mc_J1_parentOf ht a.2.1 (o := some p) (inS_some pS)) (Nat.le_of_eq (Nat.zero_add _)) (Nat.le_of_eq (Nat.zero_add _)) (fun r_186 h_186 e_186 => ?_)
                obtain ⟨rfl, rfl⟩ := e_186
                refine Wk.top (v' := va_rf (some q)) (congrArg va_rf (show P1 p = some q from hq)) ?_
                refine k_iconst (v := 0) dJ1_fixAfterInsertion_189 rfl ?_
                refine k_cSV2 csJ1_307 dJ1_fixAfterInsertion_190 (mc_J1_setColor ht a.2.1 (o := some q) (inS_some qS) (x := 0) (by decide)) (Nat.le_of_eq (Nat.zero_add _)) (Nat.le_of_eq (Nat.zero_add _)) (fun h_190 e_190 => ?_)
                replace a := a.color (by decide) e_190
                clear e_190
                refine k_al1 dJ1_fixAfterInsertion_193 ?_
                refine k_cSQ1 csJ1_294 dJ1_fixAfterInsertion_194 (mc_J1_parentOf ht a.2.1 (o := some x) (inS_some xS)) (Nat.le_of_eq (Nat.zero_add _)) (Nat.le_of_eq (Nat.zero_add _)) (fun r_194 h_194 e_194 => ?_)
                obtain ⟨rfl, rfl⟩ := e_194
                refine Wk.top (v' := va_rf (some p)) (congrArg va_rf (show P1 x = some p from hPx)) ?_
                refine k_cSQ1 csJ1_294 dJ1_fixAfterInsertion_197 (mc_J1_parentOf ht a.2.1 (o := some p) (inS_some pS)) (Nat.le_of_eq (Nat.zero_add _)) (Nat.le_of_eq (Nat.zero_add _)) (fun r_197 h_197 e_197 => ?_)
                obtain ⟨rfl, rfl⟩ := e_197
                refine Wk.top (v' := va_rf (some q)) (congrArg va_rf (show P1 p = some q from hq)) ?_
                refine k_as1 dJ1_fixAfterInsertion_200 (Nat.le_of_ble_eq_true rfl) ?_
                refine k_goto (tgt := 255) dJ1_fixAfterInsertion_201 (by decide) ?_
                refine k_goto (tgt := 5) dJ1_fixAfterInsertion_255 (by decide) ?_
                exact ih ((2199023255552 - (hi1 q - lo1 q)).toNat) (by omega) _ _ _ _ _ _ _ _ _ q qS a rfl
            · have hqp : L1 q = some p := c_41.symm
              have qS := (a.2.2.1.Pm pS hq).1
              have Bx := a.2.2.1.bd xS
              have Bp := a.2.2.1.bd pS
              have Bq := a.2.2.1.bd qS
              have Bpx : lo1 p ≤ lo1 x ∧ hi1 x ≤ hi1 p ∧ κ x ≠ κ p := by
                rcases (a.2.2.1.Pm xS hPx).2 with c | c
                · have := a.2.2.1.Lm pS c; omega
                · have := a.2.2.1.Rm pS c; omega
              have Bqp := a.2.2.1.Lm qS hqp
              have nqx : q ≠ x := fun f => by subst f; omega
              refine k_al1 dJ1_fixAfterInsertion_44 ?_
              refine k_cSQ1 csJ1_294 dJ1_fixAfterInsertion_45 (mc_J1_parentOf ht a.2.1 (o := some x) (inS_some xS)) (Nat.le_of_eq (Nat.zero_add _)) (Nat.le_of_eq (Nat.zero_add _)) (fun r_45 h_45 e_45 => ?_)
              obtain ⟨rfl, rfl⟩ := e_45
              refine Wk.top (v' := va_rf (some p)) (congrArg va_rf (show P1 x = some p from hPx)) ?_
              refine k_cSQ1 csJ1_294 dJ1_fixAfterInsertion_48 (mc_J1_parentOf ht a.2.1 (o := some p) (inS_some pS)) (Nat.le_of_eq (Nat.zero_add _)) (Nat.le_of_eq (Nat.zero_add _)) (fun r_48 h_48 e_48 => ?_)
              obtain ⟨rfl, rfl⟩ := e_48
              refine Wk.top (v' := va_rf (some q)) (congrArg va_rf (show P1 p = some q from hq)) ?_
              refine k_cSQ1 csJ1_300 dJ1_fixAfterInsertion_51 (mc_J1_rightOf ht a.2.1 (o := some q) (inS_some qS)) (Nat.le_of_eq (Nat.zero_add _)) (Nat.le_of_eq (Nat.zero_add _)) (fun r_51 h_51 e_51 => ?_)
              obtain ⟨rfl, rfl⟩ := e_51
              refine Wk.top (v' := va_rf (R1 q)) (congrArg va_rf (rfl)) ?_
              refine k_as2 dJ1_fixAfterInsertion_54 (Nat.le_of_ble_eq_true rfl) ?_
              refine k_al2 dJ1_fixAfterInsertion_55 ?_
              refine k_cSI1 csJ1_303 dJ1_fixAfterInsertion_56 (mc_J1_colorOf ht a.2.1 a.2.2.2.1 (o := R1 q) (a.2.2.1.inR qS)) (Nat.le_of_eq (Nat.zero_add _)) (Nat.le_of_eq (Nat.zero_add _)) (fun r_56 h_56 e_56 => ?_)
              obtain ⟨rfl, rfl⟩ := e_56
              refine k_if_ne (tgt := 97) dJ1_fixAfterInsertion_59 (by decide) (fun c_59 => ?_) (fun c_59 => ?_)
              · skip
                refine k_al1 dJ1_fixAfterInsertion_97 ?_
                refine k_al1 dJ1_fixAfterInsertion_98 ?_
                refine k_cSQ1 csJ1_294 dJ1_fixAfterInsertion_99 (mc_J1_parentOf ht a.2.1 (o := some x) (inS_some xS)) (Nat.le_of_eq (Nat.zero_add _)) (Nat.le_of_eq (Nat.zero_add _)) (fun r_99 h_99 e_99 => ?_)
                obtain ⟨rfl, rfl⟩ := e_99
                refine Wk.top (v' := va_rf (some p)) (congrArg va_rf (show P1 x = some p from hPx)) ?_
                refine k_cSQ1 csJ1_300 dJ1_fixAfterInsertion_102 (mc_J1_rightOf ht a.2.1 (o := some p) (inS_some pS)) (Nat.le_of_eq (Nat.zero_add _)) (Nat.le_of_eq (Nat.zero_add _)) (fun r_102 h_102 e_102 => ?_)
                obtain ⟨rfl, rfl⟩ := e_102
                refine Wk.top (v' := va_rf (R1 p)) (congrArg va_rf (rfl)) ?_
                refine k_acmp_ne (rx := some x) (ry := R1 p) (tgt := 118) dJ1_fixAfterInsertion_105 (by decide) (fun c_105 => ?_) (fun c_105 => ?_)
                · exact fin118 _ _ _ _ _ _ _ _ _ x p q xS a hPx hq hqp (fun f => c_105 f.symm)
                · have hxr : R1 p = some x := c_105.symm
                  refine k_al1 dJ1_fixAfterInsertion_108 ?_
                  refine k_cSQ1 csJ1_294 dJ1_fixAfterInsertion_109 (mc_J1_parentOf ht a.2.1 (o := some x) (inS_some xS)) (Nat.le_of_eq (Nat.zero_add _)) (Nat.le_of_eq (Nat.zero_add _)) (fun r_109 h_109 e_109 => ?_)
                  obtain ⟨rfl, rfl⟩ := e_109
                  refine Wk.top (v' := va_rf (some p)) (congrArg va_rf (show P1 x = some p from hPx)) ?_
                  refine k_as1 dJ1_fixAfterInsertion_112 (Nat.le_of_ble_eq_true rfl) ?_
                  refine k_al0 dJ1_fixAfterInsertion_113 ?_
                  refine k_al1 dJ1_fixAfterInsertion_114 ?_
                  refine k_cVV1 cvJ1_311_13 dJ1_fixAfterInsertion_115 (mc_J1_rotateLeft ht a.2.1 a.1 a.2.2.1 pS hxr) a.1 (Nat.le_of_eq (Nat.zero_add _)) (Nat.le_of_eq (Nat.zero_add _)) (fun h_115 e_115 => ?_)
                  obtain ⟨L2, R2, P2, rt2, s, k1, k2, k3⟩ := e_115
                  have a2 := a.rotL pS hxr s k1 k2 k3
                  have hl2 : L2 q = some x := s.2.1 q nqx hq hqp
                  exact fin118 _ _ _ _ _ _ _ _ _ p x q pS a2 s.2.2.2.2.2.2.1 (s.2.2.2.2.2.2.2.1.trans hq) hl2 (fun f => absurd f (a2.2.2.1.LR xS s.1))
              · obtain ⟨y, hy⟩ : ∃ y, R1 q = some y := by
                  cases hy : R1 q with
                  | none => rw [hy] at c_59; exact absurd (show (1 : Int32) = 0 from c_59) (by decide)
                  | some y => exact ⟨y, rfl⟩
                have yS := (a.2.2.1.Rm qS hy).1
                rw [hy]
                refine k_al1 dJ1_fixAfterInsertion_62 ?_
                refine k_cSQ1 csJ1_294 dJ1_fixAfterInsertion_63 (mc_J1_parentOf ht a.2.1 (o := some x) (inS_some xS)) (Nat.le_of_eq (Nat.zero_add _)) (Nat.le_of_eq (Nat.zero_add _)) (fun r_63 h_63 e_63 => ?_)
                obtain ⟨rfl, rfl⟩ := e_63
                refine Wk.top (v' := va_rf (some p)) (congrArg va_rf (show P1 x = some p from hPx)) ?_
                refine k_iconst (v := 1) dJ1_fixAfterInsertion_66 rfl ?_
                refine k_cSV2 csJ1_307 dJ1_fixAfterInsertion_67 (mc_J1_setColor ht a.2.1 (o := some p) (inS_some pS) (x := 1) (by decide)) (Nat.le_of_eq (Nat.zero_add _)) (Nat.le_of_eq (Nat.zero_add _)) (fun h_67 e_67 => ?_)
                replace a := a.color (by decide) e_67
                clear e_67
                refine k_al2 dJ1_fixAfterInsertion_70 ?_
                refine k_iconst (v := 1) dJ1_fixAfterInsertion_71 rfl ?_
                refine k_cSV2 csJ1_307 dJ1_fixAfterInsertion_72 (mc_J1_setColor ht a.2.1 (o := some y) (inS_some yS) (x := 1) (by decide)) (Nat.le_of_eq (Nat.zero_add _)) (Nat.le_of_eq (Nat.zero_add _)) (fun h_72 e_72 => ?_)
                replace a := a.color (by decide) e_72
                clear e_72
                refine k_al1 dJ1_fixAfterInsertion_75 ?_
                refine k_cSQ1 csJ1_294 dJ1_fixAfterInsertion_76 (mc_J1_parentOf ht a.2.1 (o := some x) (inS_some xS)) (Nat.le_of_eq (Nat.zero_add _)) (Nat.le_of_eq (Nat.zero_add _)) (fun r_76 h_76 e_76 => ?_)
                obtain ⟨rfl, rfl⟩ := e_76
                refine Wk.top (v' := va_rf (some p)) (congrArg va_rf (show P1 x = some p from hPx)) ?_
                refine k_cSQ1 csJ1_294 dJ1_fixAfterInsertion_79 (mc_J1_parentOf ht a.2.1 (o := some p) (inS_some pS)) (Nat.le_of_eq (Nat.zero_add _)) (Nat.le_of_eq (Nat.zero_add _)) (fun r_79 h_79 e_79 => ?_)
                obtain ⟨rfl, rfl⟩ := e_79
                refine Wk.top (v' := va_rf (some q)) (congrArg va_rf (show P1 p = some q from hq)) ?_
                refine k_iconst (v := 0) dJ1_fixAfterInsertion_82 rfl ?_
                refine k_cSV2 csJ1_307 dJ1_fixAfterInsertion_83 (mc_J1_setColor ht a.2.1 (o := some q) (inS_some qS) (x := 0) (by decide)) (Nat.le_of_eq (Nat.zero_add _)) (Nat.le_of_eq (Nat.zero_add _)) (fun h_83 e_83 => ?_)
                replace a := a.color (by decide) e_83
                clear e_83
                refine k_al1 dJ1_fixAfterInsertion_86 ?_
                refine k_cSQ1 csJ1_294 dJ1_fixAfterInsertion_87 (mc_J1_parentOf ht a.2.1 (o := some x) (inS_some xS)) (Nat.le_of_eq (Nat.zero_add _)) (Nat.le_of_eq (Nat.zero_add _)) (fun r_87 h_87 e_87 => ?_)
                obtain ⟨rfl, rfl⟩ := e_87
                refine Wk.top (v' := va_rf (some p)) (congrArg va_rf (show P1 x = some p from hPx)) ?_
                refine k_cSQ1 csJ1_294 dJ1_fixAfterInsertion_90 (mc_J1_parentOf ht a.2.1 (o := some p) (inS_some pS)) (Nat.le_of_eq (Nat.zero_add _)) (Nat.le_of_eq (Nat.zero_add _)) (fun r_90 h_90 e_90 => ?_)
                obtain ⟨rfl, rfl⟩ := e_90
                refine Wk.top (v' := va_rf (some q)) (congrArg va_rf (show P1 p = some q from hq)) ?_
                refine k_as1 dJ1_fixAfterInsertion_93 (Nat.le_of_ble_eq_true rfl) ?_
                refine k_goto (tgt := 148) dJ1_fixAfterInsertion_94 (by decide) ?_
                refine k_goto (tgt := 5) dJ1_fixAfterInsertion_148 (by decide) ?_
                exact ih ((2199023255552 - (hi1 q - lo1 q)).toNat) (by omega) _ _ _ _ _ _ _ _ _ q qS a rfl
  refine k_al1 dJ1_fixAfterInsertion_0 ?_
  refine k_iconst (v := 0) dJ1_fixAfterInsertion_1 rfl ?_
  refine k_p5 fpJ1_290_14 dJ1_fixAfterInsertion_2 (a0.2.1 x xS) rfl rfl ?_
  exact loop _ _ _ _ _ _ _ _ _ _ x xS ⟨a0.2.1.me a0.1 xS, a0.2.1.pC xS, a0.2.2.1, a0.2.2.2.1.fu (Or.inl rfl), a0.2.2.2.2.e xS⟩ rfl
