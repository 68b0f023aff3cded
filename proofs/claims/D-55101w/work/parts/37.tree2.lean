/-! TREEMAP, 1: entries, rotations (printed by tools/mk_tree1.py) -/
set_option maxRecDepth 100000
theorem fgJ1_124_14 : FGs "java/util/TreeMap" 124 14 4 := ⟨RJ34, TJ34, 6, RJ34, rfl, by decide, in_J34, Or.inl q1349, Or.inl rfl⟩
theorem fgJ1_111_14 : FGs "java/util/TreeMap" 111 14 2 := ⟨RJ34, TJ34, 6, RJ34, rfl, by decide, in_J34, Or.inl q1344, Or.inl rfl⟩
theorem fgJ1_114_14 : FGs "java/util/TreeMap" 114 14 3 := ⟨RJ34, TJ34, 6, RJ34, rfl, by decide, in_J34, Or.inl q1347, Or.inl rfl⟩
theorem fgJ1_290_14 : FGs "java/util/TreeMap" 290 14 5 := ⟨RJ34, TJ34, 6, RJ34, rfl, by decide, in_J34, Or.inl q1351, Or.inl rfl⟩
theorem fpJ1_290_14 {nm : String} : FPs "java/util/TreeMap" nm 290 14 5 .boolean := ⟨RJ34, TJ34, 6, RJ34, tyJ34, rfl, by decide, in_J34, tyJ34_ok, nmJ34, Or.inl rfl, tyJ34_ok 5 (by decide), Or.inl ⟨q1351, rfl⟩⟩
theorem fpJ1_111_14 {nm : String} : FPs "java/util/TreeMap" nm 111 14 2 (.object "java/util/TreeMap$Entry") := ⟨RJ34, TJ34, 6, RJ34, tyJ34, rfl, by decide, in_J34, tyJ34_ok, nmJ34, Or.inl rfl, tyJ34_ok 2 (by decide), Or.inl ⟨q1344, rfl⟩⟩
theorem fpJ1_124_14 {nm : String} : FPs "java/util/TreeMap" nm 124 14 4 (.object "java/util/TreeMap$Entry") := ⟨RJ34, TJ34, 6, RJ34, tyJ34, rfl, by decide, in_J34, tyJ34_ok, nmJ34, Or.inl rfl, tyJ34_ok 4 (by decide), Or.inl ⟨q1349, rfl⟩⟩
theorem fpJ1_114_14 {nm : String} : FPs "java/util/TreeMap" nm 114 14 3 (.object "java/util/TreeMap$Entry") := ⟨RJ34, TJ34, 6, RJ34, tyJ34, rfl, by decide, in_J34, tyJ34_ok, nmJ34, Or.inl rfl, tyJ34_ok 3 (by decide), Or.inl ⟨q1347, rfl⟩⟩
theorem fpJ1_101_13 {nm : String} : FPs "java/util/TreeMap" nm 101 13 3 (.object "java/util/TreeMap$Entry") := ⟨RJ1, TJ1, 9, RJ1, tyJ1, rfl, by decide, in_J1, tyJ1_ok, nmJ1, Or.inl rfl, tyJ1_ok 3 (by decide), Or.inl ⟨q168, rfl⟩⟩
theorem fits_rf {n : String} {o : Option Nat} : fits (.object n) (va_rf o) = true := by cases o <;> rfl
/-- an entry; a map; the entries S stand in the heap -/
abbrev tE (K V : Nat → Nat) (L Rt P : LF) (C : Nat → Int32) (e : Nat) : hE := oB 14 [.ref (K e), .ref (V e), va_rf (L e), va_rf (Rt e), va_rf (P e), .int (C e)]
abbrev tM (w : Nat → Option Nat) (rt : Option Nat) (sz mo : Int32) : hE := oB 13 [va_rf (w 0), va_rf (w 1), va_rf (w 2), va_rf rt, .int sz, .int mo, va_rf (w 6), va_rf (w 7), va_rf (w 8)]
def tS (H : hp) (S : List Nat) (K V : Nat → Nat) (L Rt P : LF) (C : Nat → Int32) : Prop := ∀ e, e ∈ S → H e = some (tE K V L Rt P C e)
/-- beside the map and its entries nothing has changed -/
def tF (H H' : hp) (m : Nat) (S : List Nat) : Prop := ∀ q, q ≠ m → q ∉ S → H' q = H q
theorem tF.rfl' {H : hp} {m : Nat} {S : List Nat} : tF H H m S := fun _ _ _ => rfl
theorem tF.trans {H H' H'' : hp} {m : Nat} {S : List Nat} (a : tF H H' m S) (b : tF H' H'' m S) : tF H H'' m S := fun q h1 h2 => (b q h1 h2).trans (a q h1 h2)
theorem tF.e {H H' : hp} {m e : Nat} {S : List Nat} {x : hE} (a : tF H H' m S) (he : e ∈ S) : tF H (hu H' e x) m S := fun q h1 h2 => (hu_n (show q ≠ e from fun f => h2 (by rw [f]; exact he))).trans (a q h1 h2)
theorem tF.m {H H' : hp} {m : Nat} {S : List Nat} {x : hE} (a : tF H H' m S) : tF H (hu H' m x) m S := fun q h1 h2 => (hu_n h1).trans (a q h1 h2)
section TS
variable {H : hp} {S : List Nat} {K V : Nat → Nat} {L Rt P : LF} {C : Nat → Int32} {e m : Nat}
theorem tS.gen {K' V' : Nat → Nat} {L' Rt' P' : LF} {C' : Nat → Int32} {x : hE} (h : tS H S K V L Rt P C) (he : e ∈ S) (hx : x = tE K' V' L' Rt' P' C' e) (ho : ∀ y, y ≠ e → tE K V L Rt P C y = tE K' V' L' Rt' P' C' y) : tS (hu H e x) S K' V' L' Rt' P' C' := fun y hy => by
  by_cases c : y = e
  · subst c; rw [hu_s, hx]
  · rw [hu_n c, h y hy, ho y c]
theorem tS.pK {x : Nat} (h : tS H S K V L Rt P C) (he : e ∈ S) : tS (hu H e (oB 14 [.ref x, .ref (V e), va_rf (L e), va_rf (Rt e), va_rf (P e), .int (C e)])) S (fu K e x) V L Rt P C := h.gen he (by simp [tE, fu]) (fun y hy => by simp [tE, fu, hy])
theorem tS.pV {x : Nat} (h : tS H S K V L Rt P C) (he : e ∈ S) : tS (hu H e (oB 14 [.ref (K e), .ref x, va_rf (L e), va_rf (Rt e), va_rf (P e), .int (C e)])) S K (fu V e x) L Rt P C := h.gen he (by simp [tE, fu]) (fun y hy => by simp [tE, fu, hy])
theorem tS.pL {x : Option Nat} (h : tS H S K V L Rt P C) (he : e ∈ S) : tS (hu H e (oB 14 [.ref (K e), .ref (V e), va_rf x, va_rf (Rt e), va_rf (P e), .int (C e)])) S K V (fu L e x) Rt P C := h.gen he (by simp [tE, fu]) (fun y hy => by simp [tE, fu, hy])
theorem tS.pR {x : Option Nat} (h : tS H S K V L Rt P C) (he : e ∈ S) : tS (hu H e (oB 14 [.ref (K e), .ref (V e), va_rf (L e), va_rf x, va_rf (P e), .int (C e)])) S K V L (fu Rt e x) P C := h.gen he (by simp [tE, fu]) (fun y hy => by simp [tE, fu, hy])
theorem tS.pP {x : Option Nat} (h : tS H S K V L Rt P C) (he : e ∈ S) : tS (hu H e (oB 14 [.ref (K e), .ref (V e), va_rf (L e), va_rf (Rt e), va_rf x, .int (C e)])) S K V L Rt (fu P e x) C := h.gen he (by simp [tE, fu]) (fun y hy => by simp [tE, fu, hy])
theorem tS.pC {x : Int32} (h : tS H S K V L Rt P C) (he : e ∈ S) : tS (hu H e (oB 14 [.ref (K e), .ref (V e), va_rf (L e), va_rf (Rt e), va_rf (P e), .int x])) S K V L Rt P (fu C e x) := h.gen he (by simp [tE, fu]) (fun y hy => by simp [tE, fu, hy])
theorem tS.mm {x : hE} {w : Nat → Option Nat} {rt : Option Nat} {sz mo : Int32} (h : tS H S K V L Rt P C) (hm : H m = some (tM w rt sz mo)) : tS (hu H m x) S K V L Rt P C := fun y hy => by rw [hu_n (hp_ne (h y hy) hm (by decide))]; exact h y hy
theorem tS.me {x : hE} {w : Nat → Option Nat} {rt : Option Nat} {sz mo : Int32} (h : tS H S K V L Rt P C) (hm : H m = some (tM w rt sz mo)) (he : e ∈ S) : hu H e x m = some (tM w rt sz mo) := by rw [hu_n (hp_ne hm (h e he) (by decide))]; exact hm
end TS
/-- colours are truth values -/
def okC (C : Nat → Int32) : Prop := ∀ e, C e = 0 ∨ C e = 1
theorem okC.fu {C : Nat → Int32} {e : Nat} {x : Int32} (h : okC C) (hx : x = 0 ∨ x = 1) : okC (fu C e x) := fun y => by
  by_cases c : y = e
  · subst c; rw [fu_s]; exact hx
  · rw [fu_n c]; exact h y
abbrev ofO {α : Type} (f : Nat → α) (o : Option Nat) (d : α) : α := match o with | some e => f e | none => d
abbrev sC (C : Nat → Int32) (o : Option Nat) (x : Int32) : Nat → Int32 := match o with | some e => fu C e x | none => C
def inS (S : List Nat) (o : Option Nat) : Prop := ∀ e, o = some e → e ∈ S
/-- what a rotation at p does to the links; r comes up -/
def rotS (L Rt P : LF) (rt : Option Nat) (L' Rt' P' : LF) (rt' : Option Nat) (p r : Nat) : Prop :=
  L' r = some p ∧ (∀ e, e ≠ r → P p = some e → L e = some p → L' e = some r) ∧ (∀ e, e ≠ r → ¬ (P p = some e ∧ L e = some p) → L' e = L e) ∧
  Rt' p = L r ∧ (∀ e, e ≠ p → P p = some e → L e ≠ some p → Rt' e = some r) ∧ (∀ e, e ≠ p → ¬ (P p = some e ∧ L e ≠ some p) → Rt' e = Rt e) ∧
  P' p = some r ∧ P' r = P p ∧ (∀ e, e ≠ p → e ≠ r → L r = some e → P' e = some p) ∧ (∀ e, e ≠ p → e ≠ r → L r ≠ some e → P' e = P e) ∧
  (P p = none → rt' = some r) ∧ (P p ≠ none → rt' = rt)
theorem rotS.L {S : List Nat} {κ : Nat → Int} {L Rt P L' Rt' P' : LF} {rt rt' : Option Nat} {lo hi : Nat → Int} {p r : Nat} (s : rotS L Rt P rt L' Rt' P' rt' p r) (h : TI S κ L Rt P rt lo hi) (hp : p ∈ S) (hr : Rt p = some r) : TI S κ L' Rt' P' rt' (fu lo r (lo p)) (fu hi p (κ r)) :=
  h.rotL hp hr s.1 s.2.1 s.2.2.1 s.2.2.2.1 s.2.2.2.2.1 s.2.2.2.2.2.1 s.2.2.2.2.2.2.1 s.2.2.2.2.2.2.2.1 s.2.2.2.2.2.2.2.2.1 s.2.2.2.2.2.2.2.2.2.1 s.2.2.2.2.2.2.2.2.2.2.1 s.2.2.2.2.2.2.2.2.2.2.2
theorem rotS.R {S : List Nat} {κ : Nat → Int} {L Rt P L' Rt' P' : LF} {rt rt' : Option Nat} {lo hi : Nat → Int} {p r : Nat} (s : rotS Rt L P rt Rt' L' P' rt' p r) (h : TI S κ L Rt P rt lo hi) (hp : p ∈ S) (hr : L p = some r) : TI S κ L' Rt' P' rt' (fu lo p (κ r)) (fu hi r (hi p)) :=
  h.rotR hp hr s.1 s.2.1 s.2.2.1 s.2.2.2.1 s.2.2.2.2.1 s.2.2.2.2.2.1 s.2.2.2.2.2.2.1 s.2.2.2.2.2.2.2.1 s.2.2.2.2.2.2.2.2.1 s.2.2.2.2.2.2.2.2.2.1 s.2.2.2.2.2.2.2.2.2.2.1 s.2.2.2.2.2.2.2.2.2.2.2
theorem TI.Lm {S : List Nat} {κ : Nat → Int} {L Rt P : LF} {rt : Option Nat} {lo hi : Nat → Int} (h : TI S κ L Rt P rt lo hi) {e x : Nat} (he : e ∈ S) (hx : L e = some x) : x ∈ S ∧ lo x = lo e ∧ hi x = κ e ∧ P x = some e := h.2.2.1 e he x hx
theorem TI.Rm {S : List Nat} {κ : Nat → Int} {L Rt P : LF} {rt : Option Nat} {lo hi : Nat → Int} (h : TI S κ L Rt P rt lo hi) {e x : Nat} (he : e ∈ S) (hx : Rt e = some x) : x ∈ S ∧ lo x = κ e ∧ hi x = hi e ∧ P x = some e := h.2.2.2.2.1 e he x hx
theorem TI.Pm {S : List Nat} {κ : Nat → Int} {L Rt P : LF} {rt : Option Nat} {lo hi : Nat → Int} (h : TI S κ L Rt P rt lo hi) {e x : Nat} (he : e ∈ S) (hx : P e = some x) : x ∈ S ∧ (L x = some e ∨ Rt x = some e) := h.2.2.2.2.2.2.1 e he x hx
theorem TI.bd {S : List Nat} {κ : Nat → Int} {L Rt P : LF} {rt : Option Nat} {lo hi : Nat → Int} (h : TI S κ L Rt P rt lo hi) {e : Nat} (he : e ∈ S) : lo e < κ e ∧ κ e < hi e ∧ -1099511627776 ≤ lo e ∧ hi e ≤ 1099511627776 := h.1 e he
theorem TI.rm {S : List Nat} {κ : Nat → Int} {L Rt P : LF} {rt : Option Nat} {lo hi : Nat → Int} (h : TI S κ L Rt P rt lo hi) {r : Nat} (hr : rt = some r) : r ∈ S ∧ lo r = -1099511627776 ∧ hi r = 1099511627776 ∧ P r = none := h.2.2.2.2.2.2.2.2.1 r hr
theorem mc_J1_parentOf {l : Launch} (ht : l.stackTraces = false) {g : gT} {H : hp} {S : List Nat} {K V : Nat → Nat} {L Rt P : LF} {C : Nat → Int32} (ts : tS H S K V L Rt P C) {o : Option Nat} (ho : inS S o) : MM l g yJ1_parentOf kJ1_parentOf [va_rf o] (H) (pQ fun v_ h' => v_ = ofO P o none ∧ h' = H) (noX) (0) (0) := by
  refine MM.of (by decide) rfl rfl rfl (List.forall_mem_cons.mpr ⟨cat_rf _, fun _ h => absurd h List.not_mem_nil⟩) (Nat.le_of_ble_eq_true rfl) ht fun X => ?_
  show Wk _ _ _ _ _ _ _ _ _ [some (va_rf o)] _ _
  cases o with
  | none =>
    show Wk _ _ _ _ _ _ _ _ _ [some .null] _ _
    refine k_al0 dJ1_parentOf_0 ?_
    refine k_ifnonnullN dJ1_parentOf_1 ?_
    refine k_null dJ1_parentOf_4 ?_
    refine k_goto (tgt := 12) dJ1_parentOf_5 (by decide) ?_
    exact k_aret dJ1_parentOf_12 rfl ⟨none, rfl, rfl, rfl⟩
  | some e =>
    show Wk _ _ _ _ _ _ _ _ _ [some (.ref e)] _ _
    refine k_al0 dJ1_parentOf_0 ?_
    refine k_ifnonnullR (tgt := 8) dJ1_parentOf_1 (by decide) ?_
    refine k_al0 dJ1_parentOf_8 ?_
    refine k_g4 fgJ1_124_14 dJ1_parentOf_9 (ts e (ho e rfl)) ?_
    exact k_aret dJ1_parentOf_12 rfl ⟨_, rfl, rfl, rfl⟩
theorem mc_J1_leftOf {l : Launch} (ht : l.stackTraces = false) {g : gT} {H : hp} {S : List Nat} {K V : Nat → Nat} {L Rt P : LF} {C : Nat → Int32} (ts : tS H S K V L Rt P C) {o : Option Nat} (ho : inS S o) : MM l g yJ1_leftOf kJ1_leftOf [va_rf o] (H) (pQ fun v_ h' => v_ = ofO L o none ∧ h' = H) (noX) (0) (0) := by
  refine MM.of (by decide) rfl rfl rfl (List.forall_mem_cons.mpr ⟨cat_rf _, fun _ h => absurd h List.not_mem_nil⟩) (Nat.le_of_ble_eq_true rfl) ht fun X => ?_
  show Wk _ _ _ _ _ _ _ _ _ [some (va_rf o)] _ _
  cases o with
  | none =>
    show Wk _ _ _ _ _ _ _ _ _ [some .null] _ _
    refine k_al0 dJ1_leftOf_0 ?_
    refine k_ifnonnullN dJ1_leftOf_1 ?_
    refine k_null dJ1_leftOf_4 ?_
    refine k_goto (tgt := 12) dJ1_leftOf_5 (by decide) ?_
    exact k_aret dJ1_leftOf_12 rfl ⟨none, rfl, rfl, rfl⟩
  | some e =>
    show Wk _ _ _ _ _ _ _ _ _ [some (.ref e)] _ _
    refine k_al0 dJ1_leftOf_0 ?_
    refine k_ifnonnullR (tgt := 8) dJ1_leftOf_1 (by decide) ?_
    refine k_al0 dJ1_leftOf_8 ?_
    refine k_g2 fgJ1_111_14 dJ1_leftOf_9 (ts e (ho e rfl)) ?_
    exact k_aret dJ1_leftOf_12 rfl ⟨_, rfl, rfl, rfl⟩
theorem mc_J1_rightOf {l : Launch} (ht : l.stackTraces = false) {g : gT} {H : hp} {S : List Nat} {K V : Nat → Nat} {L Rt P : LF} {C : Nat → Int32} (ts : tS H S K V L Rt P C) {o : Option Nat} (ho : inS S o) : MM l g yJ1_rightOf kJ1_rightOf [va_rf o] (H) (pQ fun v_ h' => v_ = ofO Rt o none ∧ h' = H) (noX) (0) (0) := by
  refine MM.of (by decide) rfl rfl rfl (List.forall_mem_cons.mpr ⟨cat_rf _, fun _ h => absurd h List.not_mem_nil⟩) (Nat.le_of_ble_eq_true rfl) ht fun X => ?_
  show Wk _ _ _ _ _ _ _ _ _ [some (va_rf o)] _ _
  cases o with
  | none =>
    show Wk _ _ _ _ _ _ _ _ _ [some .null] _ _
    refine k_al0 dJ1_rightOf_0 ?_
    refine k_ifnonnullN dJ1_rightOf_1 ?_
    refine k_null dJ1_rightOf_4 ?_
    refine k_goto (tgt := 12) dJ1_rightOf_5 (by decide) ?_
    exact k_aret dJ1_rightOf_12 rfl ⟨none, rfl, rfl, rfl⟩
  | some e =>
    show Wk _ _ _ _ _ _ _ _ _ [some (.ref e)] _ _
    refine k_al0 dJ1_rightOf_0 ?_
    refine k_ifnonnullR (tgt := 8) dJ1_rightOf_1 (by decide) ?_
    refine k_al0 dJ1_rightOf_8 ?_
    refine k_g3 fgJ1_114_14 dJ1_rightOf_9 (ts e (ho e rfl)) ?_
    exact k_aret dJ1_rightOf_12 rfl ⟨_, rfl, rfl, rfl⟩
theorem mc_J1_colorOf {l : Launch} (ht : l.stackTraces = false) {g : gT} {H : hp} {S : List Nat} {K V : Nat → Nat} {L Rt P : LF} {C : Nat → Int32} (ts : tS H S K V L Rt P C) (hC : okC C) {o : Option Nat} (ho : inS S o) : MM l g yJ1_colorOf kJ1_colorOf [va_rf o] (H) (pI fun v_ h' => v_ = ofO C o 1 ∧ h' = H) (noX) (0) (0) := by
  refine MM.of (by decide) rfl rfl rfl (List.forall_mem_cons.mpr ⟨cat_rf _, fun _ h => absurd h List.not_mem_nil⟩) (Nat.le_of_ble_eq_true rfl) ht fun X => ?_
  show Wk _ _ _ _ _ _ _ _ _ [some (va_rf o)] _ _
  cases o with
  | none =>
    show Wk _ _ _ _ _ _ _ _ _ [some .null] _ _
    refine k_al0 dJ1_colorOf_0 ?_
    refine k_ifnonnullN dJ1_colorOf_1 ?_
    refine k_iconst (v := 1) dJ1_colorOf_4 rfl ?_
    refine k_goto (tgt := 12) dJ1_colorOf_5 (by decide) ?_
    exact k_iret dJ1_colorOf_12 rfl rfl ⟨_, rfl, rfl, rfl⟩
  | some e =>
    show Wk _ _ _ _ _ _ _ _ _ [some (.ref e)] _ _
    refine k_al0 dJ1_colorOf_0 ?_
    refine k_ifnonnullR (tgt := 8) dJ1_colorOf_1 (by decide) ?_
    refine k_al0 dJ1_colorOf_8 ?_
    refine k_g5 fgJ1_290_14 dJ1_colorOf_9 (ts e (ho e rfl)) ?_
    exact k_iret dJ1_colorOf_12 rfl (by rcases hC e with c | c <;> rw [c] <;> rfl) ⟨_, rfl, rfl, rfl⟩
theorem mc_J1_setColor {l : Launch} (ht : l.stackTraces = false) {g : gT} {H : hp} {S : List Nat} {K V : Nat → Nat} {L Rt P : LF} {C : Nat → Int32} (ts : tS H S K V L Rt P C) {o : Option Nat} (ho : inS S o) {x : Int32} (hx : x = 0 ∨ x = 1) : MM l g yJ1_setColor kJ1_setColor [va_rf o, .int x] (H) (pV fun h' => tS h' S K V L Rt P (sC C o x) ∧ ∀ q, q ∉ S → h' q = H q) (noX) (0) (0) := by
  refine MM.of (by decide) rfl rfl rfl (List.forall_mem_cons.mpr ⟨cat_rf _, List.forall_mem_cons.mpr ⟨rfl, fun _ h => absurd h List.not_mem_nil⟩⟩) (Nat.le_of_ble_eq_true rfl) ht fun X => ?_
  show Wk _ _ _ _ _ _ _ _ _ [some (va_rf o), some (.int x)] _ _
  cases o with
  | none =>
    show Wk _ _ _ _ _ _ _ _ _ [some .null, some (.int x)] _ _
    refine k_al0 dJ1_setColor_0 ?_
    refine k_ifnullN (tgt := 9) dJ1_setColor_1 (by decide) ?_
    exact k_vret dJ1_setColor_9 rfl ⟨rfl, ts, fun _ _ => rfl⟩
  | some e =>
    show Wk _ _ _ _ _ _ _ _ _ [some (.ref e), some (.int x)] _ _
    refine k_al0 dJ1_setColor_0 ?_
    refine k_ifnullR dJ1_setColor_1 ?_
    refine k_al0 dJ1_setColor_4 ?_
    refine k_il1 dJ1_setColor_5 ?_
    refine k_p5 fpJ1_290_14 dJ1_setColor_6 (ts e (ho e rfl)) (by rcases hx with c | c <;> rw [c] <;> rfl) (by rcases hx with c | c <;> rw [c] <;> rfl) ?_
    exact k_vret dJ1_setColor_9 rfl ⟨rfl, ts.pC (ho e rfl), fun q hq => hu_n (fun f => hq (by rw [f]; exact ho e rfl))⟩
theorem mc_J1_rotateLeft {l : Launch} (ht : l.stackTraces = false) {g : gT} {H : hp} {S : List Nat} {K V : Nat → Nat} {L Rt P : LF} {C : Nat → Int32} (ts : tS H S K V L Rt P C) {m : Nat} {w : Nat → Option Nat} {rt : Option Nat} {sz mo : Int32} (hm : H m = some (tM w rt sz mo)) {κ lo hi : Nat → Int} (ti : TI S κ L Rt P rt lo hi) {p r : Nat} (pS : p ∈ S) (hr : Rt p = some r) : MM l g yJ1_rotateLeft kJ1_rotateLeft [.ref m, .ref p] (H) (pV fun h' => ∃ L' Rt' P' rt', rotS L Rt P rt L' Rt' P' rt' p r ∧ h' m = some (tM w rt' sz mo) ∧ tS h' S K V L' Rt' P' C ∧ tF H h' m S) (noX) (0) (0) := by
  refine MM.of (by decide) rfl rfl rfl (List.forall_mem_cons.mpr ⟨rfl, List.forall_mem_cons.mpr ⟨rfl, fun _ h => absurd h List.not_mem_nil⟩⟩) (Nat.le_of_ble_eq_true rfl) ht fun X => ?_
  show Wk _ _ _ _ _ _ _ _ _ [some (.ref m), some (.ref p), none] _ _
  refine Wk.gen fun PP hPP => ?_
  have rS := (ti.Rm pS hr).1
  have B1 := ti.bd pS
  have B2 := ti.bd rS
  have B3 := ti.Rm pS hr
  have npr : p ≠ r := fun e => by subst e; omega
  have qp : P p ≠ some p := fun e => by
    rcases (ti.Pm pS e).2 with c | c
    · have := ti.Lm pS c; omega
    · have := ti.Rm pS c; omega
  have tail2 : ∀ (H3 : hp) (L1 R1 P1 : LF) (rt1 : Option Nat), tS H3 S K V L1 R1 P1 C → H3 m = some (tM w rt1 sz mo) → tF H H3 m S → (∀ e, e ≠ r → P p = some e → L e = some p → L1 e = some r) → (∀ e, e ≠ r → ¬ (P p = some e ∧ L e = some p) → L1 e = L e) → R1 p = L r → (∀ e, e ≠ p → P p = some e → L e ≠ some p → R1 e = some r) → (∀ e, e ≠ p → ¬ (P p = some e ∧ L e ≠ some p) → R1 e = Rt e) → P1 r = P p → (∀ e, e ≠ p → e ≠ r → L r = some e → P1 e = some p) → (∀ e, e ≠ p → e ≠ r → L r ≠ some e → P1 e = P e) → (P p = none → rt1 = some r) → (P p ≠ none → rt1 = rt) → Wk l g X kJ1_rotateLeft PP noX 0 0 85 [some (.ref m), some (.ref p), some (.ref r)] [] H3 := by
    intro H3 L1 R1 P1 rt1 t3 hm3 hF l1 l2 r1 r2 r3 p1 p2 p3 q1 q2
    rw [hPP]
    refine k_al2 dJ1_rotateLeft_85 ?_
    refine k_al1 dJ1_rotateLeft_86 ?_
    refine k_p2 fpJ1_111_14 dJ1_rotateLeft_87 (t3 r rS) rfl rfl ?_
    have t4 := t3.pL rS (x := some p)
    refine k_al1 dJ1_rotateLeft_90 ?_
    refine k_al2 dJ1_rotateLeft_91 ?_
    refine k_p4 fpJ1_124_14 dJ1_rotateLeft_92 (t4 p pS) rfl rfl ?_
    have t5 := t4.pP pS (x := some r)
    exact k_vret dJ1_rotateLeft_95 rfl ⟨rfl, _, _, _, _, ⟨fu_s, fun e he a b => (fu_n he).trans (l1 e he a b), fun e he a => (fu_n he).trans (l2 e he a), r1, r2, r3, fu_s, (fu_n npr.symm).trans p1, fun e a b c => (fu_n a).trans (p2 e a b c), fun e a b c => (fu_n a).trans (p3 e a b c), q1, q2⟩, (t4.me (t3.me hm3 rS) pS), t5, (hF.e rS).e pS⟩
  have tail1 : ∀ (H2 : hp) (P1 : LF), tS H2 S K V L (fu Rt p (L r)) P1 C → H2 m = some (tM w rt sz mo) → tF H H2 m S → P1 p = P p → (∀ e, L r = some e → P1 e = some p) → (∀ e, L r ≠ some e → P1 e = P e) → Wk l g X kJ1_rotateLeft PP noX 0 0 32 [some (.ref m), some (.ref p), some (.ref r)] [] H2 := by
    intro H2 P1 t2 hm2 hF2 hP1 a1 a2
    refine k_al2 dJ1_rotateLeft_32 ?_
    refine k_al1 dJ1_rotateLeft_33 ?_
    refine k_g4 fgJ1_124_14 dJ1_rotateLeft_34 (t2 p pS) ?_
    rw [hP1]
    refine k_p4 fpJ1_124_14 dJ1_rotateLeft_37 (t2 r rS) rfl fits_rf ?_
    have t3 := t2.pP rS (x := P p)
    have hm3 := t2.me hm2 rS (x := oB 14 [.ref (K r), .ref (V r), va_rf (L r), va_rf (fu Rt p (L r) r), va_rf (P p), .int (C r)])
    have hF3 := hF2.e rS (x := oB 14 [.ref (K r), .ref (V r), va_rf (L r), va_rf (fu Rt p (L r) r), va_rf (P p), .int (C r)])
    have hPp : fu P1 r (P p) p = P p := (fu_n npr).trans hP1
    refine k_al1 dJ1_rotateLeft_40 ?_
    refine k_g4 fgJ1_124_14 dJ1_rotateLeft_41 (t3 p pS) ?_
    rw [hPp]
    refine k_ifnonnull (tgt := 55) dJ1_rotateLeft_44 (by decide) (fun q c_44 => ?_) (fun c_44 => ?_)
    · skip
      have qS := (ti.Pm pS c_44).1
      have npq : p ≠ q := fun f => by subst f; exact qp c_44
      refine k_al1 dJ1_rotateLeft_55 ?_
      refine k_g4 fgJ1_124_14 dJ1_rotateLeft_56 (t3 p pS) ?_
      refine Wk.top (v' := .ref q) (by rw [hPp, c_44]; rfl) ?_
      refine k_g2 fgJ1_111_14 dJ1_rotateLeft_59 (t3 q qS) ?_
      refine k_al1 dJ1_rotateLeft_62 ?_
      refine k_acmp_ne (rx := L q) (ry := some p) (tgt := 77) dJ1_rotateLeft_63 (by decide) (fun c_63 => ?_) (fun c_63 => ?_)
      · skip
        refine k_al1 dJ1_rotateLeft_77 ?_
        refine k_g4 fgJ1_124_14 dJ1_rotateLeft_78 (t3 p pS) ?_
        refine Wk.top (v' := .ref q) (by rw [hPp, c_44]; rfl) ?_
        refine k_al2 dJ1_rotateLeft_81 ?_
        refine k_p3 fpJ1_114_14 dJ1_rotateLeft_82 (t3 q qS) rfl rfl ?_
        have t4 := t3.pR qS (x := some r)
        exact tail2 _ _ _ _ _ t4 (t3.me hm3 qS) (hF3.e qS) (fun e a b c => by rw [c_44] at b; cases b; exact absurd c c_63) (fun e a b => rfl) ((fu_n npq).trans fu_s) (fun e a b c => by rw [c_44] at b; cases b; exact fu_s) (fun e a b => (fu_n (fun f => b ⟨by rw [f]; exact c_44, by rw [f]; exact c_63⟩)).trans (fu_n a)) fu_s (fun e a b c => (fu_n b).trans (a1 e c)) (fun e a b c => (fu_n b).trans (a2 e c)) (fun a => by rw [c_44] at a; cases a) (fun _ => rfl)
      · skip
        refine k_al1 dJ1_rotateLeft_66 ?_
        refine k_g4 fgJ1_124_14 dJ1_rotateLeft_67 (t3 p pS) ?_
        refine Wk.top (v' := .ref q) (by rw [hPp, c_44]; rfl) ?_
        refine k_al2 dJ1_rotateLeft_70 ?_
        refine k_p2 fpJ1_111_14 dJ1_rotateLeft_71 (t3 q qS) rfl rfl ?_
        have t4 := t3.pL qS (x := some r)
        refine k_goto (tgt := 85) dJ1_rotateLeft_74 (by decide) ?_
        exact tail2 _ _ _ _ _ t4 (t3.me hm3 qS) (hF3.e qS) (fun e a b c => by rw [c_44] at b; cases b; exact fu_s) (fun e a b => fu_n (fun f => b ⟨by rw [f]; exact c_44, by rw [f]; exact c_63⟩)) fu_s (fun e a b c => by rw [c_44] at b; cases b; exact absurd c_63 c) (fun e a b => fu_n a) fu_s (fun e a b c => (fu_n b).trans (a1 e c)) (fun e a b c => (fu_n b).trans (a2 e c)) (fun a => by rw [c_44] at a; cases a) (fun _ => rfl)
    · skip
      refine k_al0 dJ1_rotateLeft_47 ?_
      refine k_al2 dJ1_rotateLeft_48 ?_
      refine k_p3 fpJ1_101_13 dJ1_rotateLeft_49 hm3 rfl rfl ?_
      refine k_goto (tgt := 85) dJ1_rotateLeft_52 (by decide) ?_
      exact tail2 _ _ _ _ _ (t3.mm hm3) hu_s hF3.m (fun e a b => by rw [c_44] at b; cases b) (fun e a b => rfl) fu_s (fun e a b => by rw [c_44] at b; cases b) (fun e a b => fu_n a) fu_s (fun e a b c => (fu_n b).trans (a1 e c)) (fun e a b c => (fu_n b).trans (a2 e c)) (fun _ => rfl) (fun a => absurd c_44 a)
  refine k_al1 dJ1_rotateLeft_0 ?_
  refine k_ifnullR dJ1_rotateLeft_1 ?_
  refine k_al1 dJ1_rotateLeft_4 ?_
  refine k_g3 fgJ1_114_14 dJ1_rotateLeft_5 (ts p pS) ?_
  rw [hr]
  show Wk _ _ _ _ _ _ _ _ _ _ (.ref r :: _) _
  refine k_as2 dJ1_rotateLeft_8 (Nat.le_of_ble_eq_true rfl) ?_
  refine k_al1 dJ1_rotateLeft_9 ?_
  refine k_al2 dJ1_rotateLeft_10 ?_
  refine k_g2 fgJ1_111_14 dJ1_rotateLeft_11 (ts r rS) ?_
  refine k_p3 fpJ1_114_14 dJ1_rotateLeft_14 (ts p pS) rfl fits_rf ?_
  have t1 := ts.pR pS (x := L r)
  refine k_al2 dJ1_rotateLeft_17 ?_
  refine k_g2 fgJ1_111_14 dJ1_rotateLeft_18 (t1 r rS) ?_
  refine k_ifnull (tgt := 32) dJ1_rotateLeft_21 (by decide) (fun c_21 => ?_) (fun y c_21 => ?_)
  · skip
    exact tail1 _ _ t1 (ts.me hm pS) (tF.rfl'.e pS) rfl (fun e a => by rw [c_21] at a; cases a) (fun e a => rfl)
  · skip
    have yS := (ti.Lm rS c_21).1
    have B4 := ti.Lm rS c_21
    have B5 := ti.bd yS
    have nyp : y ≠ p := fun e => by subst e; omega
    refine k_al2 dJ1_rotateLeft_24 ?_
    refine k_g2 fgJ1_111_14 dJ1_rotateLeft_25 (t1 r rS) ?_
    refine Wk.top (v' := .ref y) (by rw [c_21]; rfl) ?_
    refine k_al1 dJ1_rotateLeft_28 ?_
    refine k_p4 fpJ1_124_14 dJ1_rotateLeft_29 (t1 y yS) rfl rfl ?_
    have t2 := t1.pP yS (x := some p)
    exact tail1 _ _ t2 (t1.me (ts.me hm pS) yS) ((tF.rfl'.e pS).e yS) (fu_n (fun f => nyp f.symm)) (fun e a => by rw [c_21] at a; cases a; exact fu_s) (fun e a => fu_n (fun f => a (f ▸ c_21)))
theorem mc_J1_rotateLeftN {l : Launch} (ht : l.stackTraces = false) {g : gT} {H : hp} {m : Nat} : MM l g yJ1_rotateLeft kJ1_rotateLeft [.ref m, .null] (H) (pV fun h' => h' = H) (noX) (0) (0) := by
  refine MM.of (by decide) rfl rfl rfl (List.forall_mem_cons.mpr ⟨rfl, List.forall_mem_cons.mpr ⟨rfl, fun _ h => absurd h List.not_mem_nil⟩⟩) (Nat.le_of_ble_eq_true rfl) ht fun X => ?_
  show Wk _ _ _ _ _ _ _ _ _ [some (.ref m), some (.null), none] _ _
  refine k_al1 dJ1_rotateLeft_0 ?_
  refine k_ifnullN (tgt := 95) dJ1_rotateLeft_1 (by decide) ?_
  exact k_vret dJ1_rotateLeft_95 rfl ⟨rfl, rfl⟩
theorem mc_J1_rotateRight {l : Launch} (ht : l.stackTraces = false) {g : gT} {H : hp} {S : List Nat} {K V : Nat → Nat} {L Rt P : LF} {C : Nat → Int32} (ts : tS H S K V L Rt P C) {m : Nat} {w : Nat → Option Nat} {rt : Option Nat} {sz mo : Int32} (hm : H m = some (tM w rt sz mo)) {κ lo hi : Nat → Int} (ti : TI S κ L Rt P rt lo hi) {p r : Nat} (pS : p ∈ S) (hr : L p = some r) : MM l g yJ1_rotateRight kJ1_rotateRight [.ref m, .ref p] (H) (pV fun h' => ∃ Rt' L' P' rt', rotS Rt L P rt Rt' L' P' rt' p r ∧ h' m = some (tM w rt' sz mo) ∧ tS h' S K V L' Rt' P' C ∧ tF H h' m S) (noX) (0) (0) := by
  refine MM.of (by decide) rfl rfl rfl (List.forall_mem_cons.mpr ⟨rfl, List.forall_mem_cons.mpr ⟨rfl, fun _ h => absurd h List.not_mem_nil⟩⟩) (Nat.le_of_ble_eq_true rfl) ht fun X => ?_
  show Wk _ _ _ _ _ _ _ _ _ [some (.ref m), some (.ref p), none] _ _
  refine Wk.gen fun PP hPP => ?_
  have rS := (ti.Lm pS hr).1
  have B1 := ti.bd pS
  have B2 := ti.bd rS
  have B3 := ti.Lm pS hr
  have npr : p ≠ r := fun e => by subst e; omega
  have qp : P p ≠ some p := fun e => by
    rcases (ti.Pm pS e).2 with c | c
    · have := ti.Lm pS c; omega
    · have := ti.Rm pS c; omega
  have tail2 : ∀ (H3 : hp) (L1 R1 P1 : LF) (rt1 : Option Nat), tS H3 S K V R1 L1 P1 C → H3 m = some (tM w rt1 sz mo) → tF H H3 m S → (∀ e, e ≠ r → P p = some e → Rt e = some p → L1 e = some r) → (∀ e, e ≠ r → ¬ (P p = some e ∧ Rt e = some p) → L1 e = Rt e) → R1 p = Rt r → (∀ e, e ≠ p → P p = some e → Rt e ≠ some p → R1 e = some r) → (∀ e, e ≠ p → ¬ (P p = some e ∧ Rt e ≠ some p) → R1 e = L e) → P1 r = P p → (∀ e, e ≠ p → e ≠ r → Rt r = some e → P1 e = some p) → (∀ e, e ≠ p → e ≠ r → Rt r ≠ some e → P1 e = P e) → (P p = none → rt1 = some r) → (P p ≠ none → rt1 = rt) → Wk l g X kJ1_rotateRight PP noX 0 0 85 [some (.ref m), some (.ref p), some (.ref r)] [] H3 := by
    intro H3 L1 R1 P1 rt1 t3 hm3 hF l1 l2 r1 r2 r3 p1 p2 p3 q1 q2
    rw [hPP]
    refine k_al2 dJ1_rotateRight_85 ?_
    refine k_al1 dJ1_rotateRight_86 ?_
    refine k_p3 fpJ1_114_14 dJ1_rotateRight_87 (t3 r rS) rfl rfl ?_
    have t4 := t3.pR rS (x := some p)
    refine k_al1 dJ1_rotateRight_90 ?_
    refine k_al2 dJ1_rotateRight_91 ?_
    refine k_p4 fpJ1_124_14 dJ1_rotateRight_92 (t4 p pS) rfl rfl ?_
    have t5 := t4.pP pS (x := some r)
    exact k_vret dJ1_rotateRight_95 rfl ⟨rfl, _, _, _, _, ⟨fu_s, fun e he a b => (fu_n he).trans (l1 e he a b), fun e he a => (fu_n he).trans (l2 e he a), r1, r2, r3, fu_s, (fu_n npr.symm).trans p1, fun e a b c => (fu_n a).trans (p2 e a b c), fun e a b c => (fu_n a).trans (p3 e a b c), q1, q2⟩, (t4.me (t3.me hm3 rS) pS), t5, (hF.e rS).e pS⟩
  have tail1 : ∀ (H2 : hp) (P1 : LF), tS H2 S K V (fu L p (Rt r)) Rt P1 C → H2 m = some (tM w rt sz mo) → tF H H2 m S → P1 p = P p → (∀ e, Rt r = some e → P1 e = some p) → (∀ e, Rt r ≠ some e → P1 e = P e) → Wk l g X kJ1_rotateRight PP noX 0 0 32 [some (.ref m), some (.ref p), some (.ref r)] [] H2 := by
    intro H2 P1 t2 hm2 hF2 hP1 a1 a2
    refine k_al2 dJ1_rotateRight_32 ?_
    refine k_al1 dJ1_rotateRight_33 ?_
    refine k_g4 fgJ1_124_14 dJ1_rotateRight_34 (t2 p pS) ?_
    rw [hP1]
    refine k_p4 fpJ1_124_14 dJ1_rotateRight_37 (t2 r rS) rfl fits_rf ?_
    have t3 := t2.pP rS (x := P p)
    have hm3 := t2.me hm2 rS (x := oB 14 [.ref (K r), .ref (V r), va_rf (fu L p (Rt r) r), va_rf (Rt r), va_rf (P p), .int (C r)])
    have hF3 := hF2.e rS (x := oB 14 [.ref (K r), .ref (V r), va_rf (fu L p (Rt r) r), va_rf (Rt r), va_rf (P p), .int (C r)])
    have hPp : fu P1 r (P p) p = P p := (fu_n npr).trans hP1
    refine k_al1 dJ1_rotateRight_40 ?_
    refine k_g4 fgJ1_124_14 dJ1_rotateRight_41 (t3 p pS) ?_
    rw [hPp]
    refine k_ifnonnull (tgt := 55) dJ1_rotateRight_44 (by decide) (fun q c_44 => ?_) (fun c_44 => ?_)
    · skip
      have qS := (ti.Pm pS c_44).1
      have npq : p ≠ q := fun f => by subst f; exact qp c_44
      refine k_al1 dJ1_rotateRight_55 ?_
      refine k_g4 fgJ1_124_14 dJ1_rotateRight_56 (t3 p pS) ?_
      refine Wk.top (v' := .ref q) (by rw [hPp, c_44]; rfl) ?_
      refine k_g3 fgJ1_114_14 dJ1_rotateRight_59 (t3 q qS) ?_
      refine k_al1 dJ1_rotateRight_62 ?_
      refine k_acmp_ne (rx := Rt q) (ry := some p) (tgt := 77) dJ1_rotateRight_63 (by decide) (fun c_63 => ?_) (fun c_63 => ?_)
      · skip
        refine k_al1 dJ1_rotateRight_77 ?_
        refine k_g4 fgJ1_124_14 dJ1_rotateRight_78 (t3 p pS) ?_
        refine Wk.top (v' := .ref q) (by rw [hPp, c_44]; rfl) ?_
        refine k_al2 dJ1_rotateRight_81 ?_
        refine k_p2 fpJ1_111_14 dJ1_rotateRight_82 (t3 q qS) rfl rfl ?_
        have t4 := t3.pL qS (x := some r)
        exact tail2 _ _ _ _ _ t4 (t3.me hm3 qS) (hF3.e qS) (fun e a b c => by rw [c_44] at b; cases b; exact absurd c c_63) (fun e a b => rfl) ((fu_n npq).trans fu_s) (fun e a b c => by rw [c_44] at b; cases b; exact fu_s) (fun e a b => (fu_n (fun f => b ⟨by rw [f]; exact c_44, by rw [f]; exact c_63⟩)).trans (fu_n a)) fu_s (fun e a b c => (fu_n b).trans (a1 e c)) (fun e a b c => (fu_n b).trans (a2 e c)) (fun a => by rw [c_44] at a; cases a) (fun _ => rfl)
      · skip
        refine k_al1 dJ1_rotateRight_66 ?_
        refine k_g4 fgJ1_124_14 dJ1_rotateRight_67 (t3 p pS) ?_
        refine Wk.top (v' := .ref q) (by rw [hPp, c_44]; rfl) ?_
        refine k_al2 dJ1_rotateRight_70 ?_
        refine k_p3 fpJ1_114_14 dJ1_rotateRight_71 (t3 q qS) rfl rfl ?_
        have t4 := t3.pR qS (x := some r)
        refine k_goto (tgt := 85) dJ1_rotateRight_74 (by decide) ?_
        exact tail2 _ _ _ _ _ t4 (t3.me hm3 qS) (hF3.e qS) (fun e a b c => by rw [c_44] at b; cases b; exact fu_s) (fun e a b => fu_n (fun f => b ⟨by rw [f]; exact c_44, by rw [f]; exact c_63⟩)) fu_s (fun e a b c => by rw [c_44] at b; cases b; exact absurd c_63 c) (fun e a b => fu_n a) fu_s (fun e a b c => (fu_n b).trans (a1 e c)) (fun e a b c => (fu_n b).trans (a2 e c)) (fun a => by rw [c_44] at a; cases a) (fun _ => rfl)
    · skip
      refine k_al0 dJ1_rotateRight_47 ?_
      refine k_al2 dJ1_rotateRight_48 ?_
      refine k_p3 fpJ1_101_13 dJ1_rotateRight_49 hm3 rfl rfl ?_
      refine k_goto (tgt := 85) dJ1_rotateRight_52 (by decide) ?_
      exact tail2 _ _ _ _ _ (t3.mm hm3) hu_s hF3.m (fun e a b => by rw [c_44] at b; cases b) (fun e a b => rfl) fu_s (fun e a b => by rw [c_44] at b; cases b) (fun e a b => fu_n a) fu_s (fun e a b c => (fu_n b).trans (a1 e c)) (fun e a b c => (fu_n b).trans (a2 e c)) (fun _ => rfl) (fun a => absurd c_44 a)
  refine k_al1 dJ1_rotateRight_0 ?_
  refine k_ifnullR dJ1_rotateRight_1 ?_
  refine k_al1 dJ1_rotateRight_4 ?_
  refine k_g2 fgJ1_111_14 dJ1_rotateRight_5 (ts p pS) ?_
  rw [hr]
  show Wk _ _ _ _ _ _ _ _ _ _ (.ref r :: _) _
  refine k_as2 dJ1_rotateRight_8 (Nat.le_of_ble_eq_true rfl) ?_
  refine k_al1 dJ1_rotateRight_9 ?_
  refine k_al2 dJ1_rotateRight_10 ?_
  refine k_g3 fgJ1_114_14 dJ1_rotateRight_11 (ts r rS) ?_
  refine k_p2 fpJ1_111_14 dJ1_rotateRight_14 (ts p pS) rfl fits_rf ?_
  have t1 := ts.pL pS (x := Rt r)
  refine k_al2 dJ1_rotateRight_17 ?_
  refine k_g3 fgJ1_114_14 dJ1_rotateRight_18 (t1 r rS) ?_
  refine k_ifnull (tgt := 32) dJ1_rotateRight_21 (by decide) (fun c_21 => ?_) (fun y c_21 => ?_)
  · skip
    exact tail1 _ _ t1 (ts.me hm pS) (tF.rfl'.e pS) rfl (fun e a => by rw [c_21] at a; cases a) (fun e a => rfl)
  · skip
    have yS := (ti.Rm rS c_21).1
    have B4 := ti.Rm rS c_21
    have B5 := ti.bd yS
    have nyp : y ≠ p := fun e => by subst e; omega
    refine k_al2 dJ1_rotateRight_24 ?_
    refine k_g3 fgJ1_114_14 dJ1_rotateRight_25 (t1 r rS) ?_
    refine Wk.top (v' := .ref y) (by rw [c_21]; rfl) ?_
    refine k_al1 dJ1_rotateRight_28 ?_
    refine k_p4 fpJ1_124_14 dJ1_rotateRight_29 (t1 y yS) rfl rfl ?_
    have t2 := t1.pP yS (x := some p)
    exact tail1 _ _ t2 (t1.me (ts.me hm pS) yS) ((tF.rfl'.e pS).e yS) (fu_n (fun f => nyp f.symm)) (fun e a => by rw [c_21] at a; cases a; exact fu_s) (fun e a => fu_n (fun f => a (f ▸ c_21)))
theorem mc_J1_rotateRightN {l : Launch} (ht : l.stackTraces = false) {g : gT} {H : hp} {m : Nat} : MM l g yJ1_rotateRight kJ1_rotateRight [.ref m, .null] (H) (pV fun h' => h' = H) (noX) (0) (0) := by
  refine MM.of (by decide) rfl rfl rfl (List.forall_mem_cons.mpr ⟨rfl, List.forall_mem_cons.mpr ⟨rfl, fun _ h => absurd h List.not_mem_nil⟩⟩) (Nat.le_of_ble_eq_true rfl) ht fun X => ?_
  show Wk _ _ _ _ _ _ _ _ _ [some (.ref m), some (.null), none] _ _
  refine k_al1 dJ1_rotateRight_0 ?_
  refine k_ifnullN (tgt := 95) dJ1_rotateRight_1 (by decide) ?_
  exact k_vret dJ1_rotateRight_95 rfl ⟨rfl, rfl⟩
