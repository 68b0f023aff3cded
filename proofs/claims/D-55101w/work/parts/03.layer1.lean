/-! THE LAYER: an abstract heap (addresses to cells), the standing facts of a run, a method's contract MM, the judgement Wk of a walk -/
set_option maxRecDepth 100000
abbrev hE : Type := (Nat × vp_A) ⊕ (Nat × List Value)
abbrev hp : Type := Nat → Option hE
def hu (h : hp) (a : Nat) (e : hE) : hp := fun q => if q = a then some e else h q
theorem hu_s {h : hp} {a : Nat} {e : hE} : hu h a e a = some e := by simp [hu]
theorem hu_n {h : hp} {a b : Nat} {e : hE} (hn : b ≠ a) : hu h a e b = h b := by simp [hu, hn]
theorem hu_u {h : hp} {a : Nat} {e e' : hE} : hu (hu h a e) a e' = hu h a e' := by
  funext q
  simp only [hu]
  split <;> rfl
theorem hu_c {h : hp} {a b : Nat} {e e' : hE} (hn : a ≠ b) : hu (hu h a e) b e' = hu (hu h b e') a e := by
  funext q
  simp only [hu]
  by_cases h1 : q = b
  · subst h1
    simp [Ne.symm hn]
  · simp [h1]
abbrev oB (ci : Nat) (fs : List Value) : hE := .inr (ci, fs)
abbrev aI (t n : Nat) (f : Nat → Int32) : hE := .inl (t, n, .inl f)
abbrev aL (t n : Nat) (f : Nat → Int64) : hE := .inl (t, n, .inr (.inl f))
abbrev aDb (t n : Nat) (f : Nat → UInt64) : hE := .inl (t, n, .inr (.inr (.inr (.inl f))))
abbrev aQ (t n : Nat) (f : Nat → Option Nat) : hE := .inl (t, n, .inr (.inr (.inr (.inr f))))
theorem hp_ne {h : hp} {a b i j : Nat} {u v : List Value} (ha : h a = some (oB i u)) (hb : h b = some (oB j v)) (hij : i ≠ j) : a ≠ b := by
  intro e; subst e; rw [ha] at hb; cases hb; exact hij rfl
theorem hp_neA {h : hp} {a b i : Nat} {u : List Value} {x : Nat × vp_A} (ha : h a = some (oB i u)) (hb : h b = some (.inl x)) : a ≠ b := by
  intro e; subst e; rw [ha] at hb; cases hb
theorem hp_neL {h : hp} {a b : Nat} {x y : Nat × vp_A} (ha : h a = some (.inl x)) (hb : h b = some (.inl y)) (hxy : x.1 ≠ y.1) : a ≠ b := by
  intro e; subst e; rw [ha] at hb; cases hb; exact hxy rfl
theorem hp_neN {h : hp} {a b : Nat} {e : hE} (ha : h a = some e) (hb : h b = none) : a ≠ b := by
  intro e; subst e; rw [ha] at hb; cases hb
/-- the classes of the run, by their numbers -/
def T0 : u_T := fun _ => ("", "", "", false)
def clT : List vw_C := [(RX1, TX1, 11), (RX2, TX2, 11), (RX3, TX3, 8), (RX4, TX4, 3), (RX5, TX5, 6), (RX6, TX6, 21), (RX7, TX7, 4), (RX8, TX8, 1), (RX9, TX9, 8), (RX10, TX10, 3), (RX11, T0, 0), (RX12, T0, 0), (RX13, TX13, 7),
  (RJ1, TJ1, 9), (RJ34, TJ34, 6), (RJ4, TJ4, 1), (RJ5, TJ5, 3), (RJ7, TJ7, 4), (RJ19, TJ19, 1), (RJ29, TJ29, 4), (RJ32, TJ32, 1), (RJ30, TJ30, 4), (RJ44, TJ44, 1), (RJ40, TJ40, 4), (RJ46, TJ46, 12), (RJ37, TJ37, 4), (RJ21, TJ21, 5), (RJ31, TJ31, 5), (RJ43, TJ43, 4), (RJ47, TJ47, 2),
  (RJ18, T0, 0), (RJ33, T0, 0), (RJ16, T0, 0), (RJ41, T0, 0), (RJ13, T0, 0), (RJ49, T0, 0)]
/-- classes (number to id, field to slot), array classes, the first address that is the run's own, constant objects -/
abbrev gT : Type := va_G × (Nat → ClassId) × Nat × (Nat → Nat)
def hcv (g : gT) : hE → va_E
  | .inl x => .inl (g.2.1 x.1, x.2)
  | .inr o => .inr o
/-- array classes: 0 int, 1 byte, 2 char, 3 long, 4 double, 5 Object, 6 Balloon, 7 Crew -/
def tyT (g : gT) : List (ClassId × FieldType) := [(g.2.1 0, .int), (g.2.1 1, .byte), (g.2.1 2, .char), (g.2.1 3, .long), (g.2.1 4, .double), (g.2.1 5, .object "java/lang/Object"), (g.2.1 6, .object "TissueBalloons$Balloon"), (g.2.1 7, .object "TissueBalloons$Crew")]
def Ag (g : gT) : Nat → Prop := fun q => g.2.2.1 ≤ q
def Rp (g : gT) (h : hp) (H : Heap) : Prop := ∀ (a : Nat) (e : hE), h a = some e → g.2.2.1 ≤ a ∧ va_at g.1 clT (a, hcv g e) H
theorem Rp.lt {g : gT} {h : hp} {H : Heap} (hR : Rp g h H) {a : Nat} {e : hE} (ha : h a = some e) : a < H.size := (hR a e ha).2.lt
theorem Rp.P {g : gT} {h : hp} {H : Heap} (hR : Rp g h H) {a : Nat} {e : hE} (ha : h a = some e) : va_P g.1 clT [(a, hcv g e)] H := by
  intro k q hk
  have hz : k < 1 := (List.getElem?_eq_some_iff.mp hk).1
  rw [show k = 0 by omega] at hk
  cases hk
  exact (hR a e ha).2
theorem Rp.set {g : gT} {h : hp} {H H1 : Heap} (hR : Rp g h H) {a : Nat} {e : hE} (hA : g.2.2.1 ≤ a) (he : va_at g.1 clT (a, hcv g e) H1) (oq : ∀ q : Nat, q ≠ a → q < H.size → H1[q]? = H[q]?) : Rp g (hu h a e) H1 := by
  intro b e' hb
  by_cases hba : b = a
  · subst hba
    rw [hu_s] at hb
    cases hb
    exact ⟨hA, he⟩
  · rw [hu_n hba] at hb
    exact ⟨(hR b e' hb).1, (hR b e' hb).2.kept (oq b hba (hR.lt hb))⟩
/-- words that the tables keep, but that no list of good words carries -/
def xk : Cond → Bool
  | .fieldLinkNest _ _ _ _ _ _ => true
  | .methodLinkNest _ _ _ _ => true
  | .castable _ _ => true
  | .declares _ => true
  | .arrayOver (.object _) => true
  | _ => false
def GW (U : State) : Prop := ∀ w ∈ lw_tbl, xk w = true → va_Nw w U
theorem GW.warm {s U : State} (hW : s.WarmedH U.vm) (h : GW s) : GW U := by
  intro w hw hx
  have h1 := h w hw hx
  cases w with
  | fieldLinkNest a i b n d e => exact va_Nw.warmF hW h1
  | methodLinkNest a i x e => exact va_Nw.warmM hW h1
  | castable a b => exact va_Nw.warmC hW h1
  | declares x => exact va_Nw.warmD hW h1
  | arrayOver ty =>
    cases ty with
    | object C => exact va_AO.moved hW.alike h1
    | _ => simp [xk] at hx
  | _ => simp [xk] at hx
theorem xk_tab {w : Cond} (hx : xk w = true) : w.onTables = true ∨ ∃ C, w = .arrayOver (.object C) := by
  cases w with
  | arrayOver ty =>
    cases ty with
    | object C => exact Or.inr ⟨C, rfl⟩
    | _ => simp [xk] at hx
  | _ => first | exact Or.inl rfl | simp [xk] at hx
theorem GW.same {s U : State} (e : s.vm = U.vm) (h : GW s) : GW U := by
  intro w hw hx
  have h1 := h w hw hx
  rcases xk_tab hx with ht | ⟨C, rfl⟩
  · exact va_Nw.same ht e h1
  · exact va_AO.moved (u := s) (U := U) (by rw [e]; exact Vm.Alike.refl U.vm) h1
theorem GW.use {s : State} (h : GW s) {w : Cond} (hw : w ∈ lw_tbl) (hx : xk w = true) (A : Array Value) : w.before A s = true := by
  rcases xk_tab hx with ht | ⟨C, rfl⟩
  · exact va_Nw.use ht (h w hw hx)
  · exact va_AO.use (h _ hw hx)
def GF (U : State) : Prop := ∀ q ∈ FWL, va_Fw q.1 q.2.1 q.2.2 U
theorem GF.moved {u U : State} (hvm : u.vm.Alike U.vm) (h : GF u) : GF U := fun q hq => va_Fw.moved (FWL_mh q hq) hvm (h q hq)
/-- the statics that nobody writes -/
def stT (g : gT) : List (String × String × String × Value) := [("java/util/TreeSet", "PRESENT", "Ljava/lang/Object;", .ref (g.2.2.2 0)), ("java/util/TreeMap", "UNBOUNDED", "Ljava/lang/Object;", .ref (g.2.2.2 1)),
  ("java/lang/String", "COMPACT_STRINGS", "Z", .int 1), ("java/lang/StringUTF16", "HI_BYTE_SHIFT", "I", .int 0), ("java/lang/StringUTF16", "LO_BYTE_SHIFT", "I", .int 8), ("java/lang/StringUTF16", "$assertionsDisabled", "Z", .int 1)]
def GZ (g : gT) (U : State) (H : Heap) : Prop := (∀ q ∈ stT g, va_Z q.1 q.2.1 q.2.2.1 q.2.2.2 (Ag g) U H) ∧ vy_Zq Bundle.tN "UNASSIGNED_STACK" Bundle.steD (Ag g) U H ∧ vy_Zq Bundle.tN "SUPPRESSED_SENTINEL" Bundle.listD (Ag g) U H
theorem GZ.moved {g : gT} {u U : State} {H : Heap} (hvm : u.vm.Alike U.vm) (h : GZ g u H) : GZ g U H := ⟨fun q hq => (h.1 q hq).moved hvm, h.2.1.moved hvm, h.2.2.moved hvm⟩
theorem GZ.kept {g : gT} {U : State} {H H1 : Heap} (h : GZ g U H) (hq : ∀ a : Nat, a < H.size → ¬ Ag g a → H1[a]? = H[a]?) : GZ g U H1 := ⟨fun q hh => (h.1 q hh).kept hq, h.2.1.kept hq, h.2.2.kept hq⟩
def GK (g : gT) (U : State) : Prop := va_K g.1 clT (tyT g) U ∧ GW U ∧ GF U
theorem GK.warm {g : gT} {s U : State} (hW : s.WarmedH U.vm) (h : GK g s) : GK g U := ⟨va_K.moved hW.alike h.1, h.2.1.warm hW, h.2.2.moved hW.alike⟩
theorem GK.same {g : gT} {s U : State} (e : s.vm = U.vm) (h : GK g s) : GK g U := ⟨va_K.moved (by rw [e]; exact Vm.Alike.refl U.vm) h.1, h.2.1.same e, h.2.2.moved (by rw [e]; exact Vm.Alike.refl U.vm)⟩
def GS (g : gT) (h : hp) (U : State) : Prop := GK g U ∧ GZ g U U.heap ∧ Rp g h U.heap ∧ g.2.2.1 ≤ U.heap.size
/-- a method: code, class, name, locals, answer, handlers, depth -/
abbrev KX : Type := ByteArray × String × String × Nat × Option FieldType × List (Nat × Nat × Nat × Nat) × Nat
abbrev KX.cc (K : KX) : ByteArray := K.1
abbrev KX.own (K : KX) : String := K.2.1
abbrev KX.nm (K : KX) : String := K.2.2.1
abbrev KX.nL (K : KX) : Nat := K.2.2.2.1
abbrev KX.ret (K : KX) : Option FieldType := K.2.2.2.2.1
abbrev KX.hh (K : KX) : List (Nat × Nat × Nat × Nat) := K.2.2.2.2.2.1
abbrev KX.d (K : KX) : Nat := K.2.2.2.2.2.2
abbrev rmL (d mc ms : Nat) : Room := { frames := 8 * (d + 1), cells := mc, slots := ms, locals := 101 * (d + 1) + 672 }
abbrev pT : Type := Option Value → hp → Prop
abbrev eT : Type := Addr → String → hp → Prop
def noX : eT := fun _ _ _ => False
def Qn (g : gT) (P : pT) : Array Value → State → Outcome → State → Prop := fun _ st o t => (∃ (v : Option Value) (h' : hp), o = .returned v ∧ P v h' ∧ GS g h' t) ∧ va_F (Ag g) st t
def Qx (g : gT) (E : eT) : Addr → String → State → State → Prop := fun q C st t => (∃ h' : hp, E q C h' ∧ GS g h' t) ∧ va_F (Ag g) st t
/-- a method's contract: from any heap that h describes, called with av, it returns with P or throws with E; mc cells and ms slots are new at the most -/
def MM (l : Launch) (g : gT) (y : MethodName) (K : KX) (av : List Value) (h : hp) (P : pT) (E : eT) (mc ms : Nat) : Prop :=
  vy_Met l y (ws_ y K.cc K.nL K.ret) (rmL K.d mc ms) (va_Pc av (GS g h)) (Qn g P) (Qx g E) mc ms (Ag g)
def MW (l : Launch) (g : gT) (y : MethodName) (K : KX) (av : List Value) (h : hp) (P : pT) (E : eT) (mc ms : Nat) : Prop :=
  vy_Met l y (wsW_ y K.cc K.nL K.ret K.hh) (rmL K.d mc ms) (va_Pc av (GS g h)) (Qn g P) (Qx g E) mc ms (Ag g)
/-- one activation of a method -/
abbrev CX := Program × Env × State × MethodId × Array Value × List Frame × Method × Code × Nat × Nat
abbrev CX.p (X : CX) := X.1
abbrev CX.e (X : CX) := X.2.1
abbrev CX.s (X : CX) := X.2.2.1
abbrev CX.m (X : CX) := X.2.2.2.1
abbrev CX.a (X : CX) := X.2.2.2.2.1
abbrev CX.bl (X : CX) := X.2.2.2.2.2.1
abbrev CX.me (X : CX) := X.2.2.2.2.2.2.1
abbrev CX.c (X : CX) := X.2.2.2.2.2.2.2.1
abbrev CX.mc (X : CX) := X.2.2.2.2.2.2.2.2.1
abbrev CX.ms (X : CX) := X.2.2.2.2.2.2.2.2.2
def Cok (l : Launch) (g : gT) (X : CX) (K : KX) : Prop :=
  X.p.tables.exec = Jvm.exec ∧ X.c.code = K.cc ∧ X.c.maxLocals = K.nL ∧ X.s.vm.findClass K.own = some X.m.cls ∧ (∀ w ∈ lw_all, w.before X.a X.s = true) ∧ X.me.sig.returnType = K.ret ∧ X.me.locks = false ∧ X.me.name = K.nm ∧
  GK g X.s ∧ GZ g X.s X.s.heap ∧ g.2.2.1 ≤ X.s.heap.size ∧ X.c.exceptionTable.toList = tableOf K.hh ∧ l.stackTraces = false
section
variable {l : Launch} {g : gT} {X : CX} {K : KX}
theorem Cok.ex (C : Cok l g X K) : X.p.tables.exec = Jvm.exec := C.1
theorem Cok.cb (C : Cok l g X K) : X.c.code = K.cc := C.2.1
theorem Cok.ml (C : Cok l g X K) : X.c.maxLocals = K.nL := C.2.2.1
theorem Cok.ow (C : Cok l g X K) : X.s.vm.findClass K.own = some X.m.cls := C.2.2.2.1
theorem Cok.ts (C : Cok l g X K) : ∀ w ∈ lw_all, w.before X.a X.s = true := C.2.2.2.2.1
theorem Cok.rt (C : Cok l g X K) : X.me.sig.returnType = K.ret := C.2.2.2.2.2.1
theorem Cok.lk (C : Cok l g X K) : X.me.locks = false := C.2.2.2.2.2.2.1
theorem Cok.nm (C : Cok l g X K) : X.me.name = K.nm := C.2.2.2.2.2.2.2.1
theorem Cok.gk (C : Cok l g X K) : GK g X.s := C.2.2.2.2.2.2.2.2.1
theorem Cok.gz (C : Cok l g X K) : GZ g X.s X.s.heap := C.2.2.2.2.2.2.2.2.2.1
theorem Cok.sz (C : Cok l g X K) : g.2.2.1 ≤ X.s.heap.size := C.2.2.2.2.2.2.2.2.2.2.1
theorem Cok.tb (C : Cok l g X K) : X.c.exceptionTable.toList = tableOf K.hh := C.2.2.2.2.2.2.2.2.2.2.2.1
theorem Cok.tr (C : Cok l g X K) : l.stackTraces = false := C.2.2.2.2.2.2.2.2.2.2.2.2
theorem Cok.fx (C : Cok l g X K) : CallFix X.p X.m X.c K.cc K.nL X.s X.a lw_all K.own := ⟨C.ex, C.cb, C.ml, C.ow, C.ts⟩
end
/-- the locals: a list of what is known of them, each of one slot -/
def lD (ls : Array Slot) (nL : Nat) (L : List (Option Value)) : Prop := ls.size = nL ∧ lv_wf ls ∧ ∀ (i : Nat) (v : Value), L[i]? = some (some v) → ls[i]? = some (.val v) ∧ v.category = 1
def Wk (l : Launch) (g : gT) (X : CX) (K : KX) (P : pT) (E : eT) (n k pc : Nat) (L : List (Option Value)) (st : List Value) (h : hp) : Prop :=
  Cok l g X K → ∀ (H : Heap) (locs : List Loc) (ls : Array Slot) (cells slots : Nat), cells + n ≤ X.mc → slots + k ≤ X.ms → Rp g h H → va_S (Ag g) X.s.heap H locs → lD ls K.nL L →
    W X.p l X.e (rmL K.d X.mc X.ms) X.s X.m X.a X.bl X.me X.c H locs cells slots (vy_MQ X.bl (Qn g P) (Qx g E) X.a X.s X.mc X.ms (Ag g)) (F0 X.m pc ls st)
/-- q of class D has been thrown here -/
def Wx (l : Launch) (g : gT) (X : CX) (K : KX) (P : pT) (E : eT) (n k pc : Nat) (L : List (Option Value)) (q : Addr) (D : String) (h : hp) : Prop :=
  Cok l g X K → ∀ (H : Heap) (locs : List Loc) (ls : Array Slot) (cells slots : Nat) (ce : Cell) (st : List Value), cells + n ≤ X.mc → slots + k ≤ X.ms → Rp g h H → va_S (Ag g) X.s.heap H locs → lD ls K.nL L →
    H[q]? = some ce → ce.vm = .none → X.s.vm.findClass D = some ce.cls →
    vy_W X.p l X.e (rmL K.d X.mc X.ms) X.s X.m X.a X.bl X.me X.c H locs cells slots (vy_MQ X.bl (Qn g P) (Qx g E) X.a X.s X.mc X.ms (Ag g)) (F0 X.m pc ls st) q
section ENDS
variable {l : Launch} {g : gT} {X : CX} {K : KX} {P : pT} {E : eT} {n k pc : Nat} {L : List (Option Value)} {st : List Value} {h : hp}
theorem GS.end_ {locs : List Loc} {H : Heap} {t : State} (C : Cok l g X K) (hR : Rp g h H) (hS : va_S (Ag g) X.s.heap H locs) (ht : t.heap = H) (hW : X.s.WarmedH t.vm) : GS g h t := by
  subst ht
  exact ⟨C.gk.warm hW, (C.gz.kept hS.2.1).moved hW.alike, hR, Nat.le_trans C.sz hS.1⟩
/-- what a callee finds at its start -/
theorem GS.at_ {locs : List Loc} {H : Heap} {U : State} (C : Cok l g X K) (hR : Rp g h H) (hS : va_S (Ag g) X.s.heap H locs) (ht : U.heap = H) (hW : X.s.WarmedH U.vm) : GS g h U := GS.end_ C hR hS ht hW
theorem GS.blind (av : List Value) : FrameBlind (va_Pc av (GS g h)) := by
  intro a U f mk q
  obtain ⟨e1, h1, h2, h3, h4⟩ := q
  exact ⟨e1, GK.same (s := U) (U := U.calling f mk a) rfl h1, GZ.moved (u := U) (U := U.calling f mk a) (Vm.Alike.refl U.vm) h2, h3, h4⟩
theorem Wk.weak {n' k' : Nat} (hn : n' ≤ n) (hk : k' ≤ k) (w : Wk l g X K P E n' k' pc L st h) : Wk l g X K P E n k pc L st h :=
  fun C H locs ls cells slots h1 h2 hR hS hL => w C H locs ls cells slots (Nat.le_trans (Nat.add_le_add_left hn _) h1) (Nat.le_trans (Nat.add_le_add_left hk _) h2) hR hS hL
theorem Wk.loc {L' : List (Option Value)} (hL' : ∀ (i : Nat) (v : Value), L'[i]? = some (some v) → L[i]? = some (some v)) (w : Wk l g X K P E n k pc L' st h) : Wk l g X K P E n k pc L st h :=
  fun C H locs ls cells slots h1 h2 hR hS hL => w C H locs ls cells slots h1 h2 hR hS ⟨hL.1, hL.2.1, fun i v hi => hL.2.2 i v (hL' i v hi)⟩
theorem Wk.heap {h' : hp} (e : h' = h) (w : Wk l g X K P E n k pc L st h') : Wk l g X K P E n k pc L st h := by rw [← e]; exact w
/-- fewer cells of the heap are spoken of -/
theorem Wk.less {h' : hp} (e : ∀ a x, h' a = some x → h a = some x) (w : Wk l g X K P E n k pc L st h') : Wk l g X K P E n k pc L st h :=
  fun C H locs ls cells slots h1 h2 hR hS hL => w C H locs ls cells slots h1 h2 (fun a x hx => hR a x (e a x hx)) hS hL
theorem Wk.top {v v' : Value} {r : List Value} (e : v = v') (w : Wk l g X K P E n k pc L (v' :: r) h) : Wk l g X K P E n k pc L (v :: r) h := by rw [e]; exact w
theorem Wk.stk {st' : List Value} (e : st = st') (w : Wk l g X K P E n k pc L st' h) : Wk l g X K P E n k pc L st h := by rw [e]; exact w
end ENDS
section BODY
variable {l : Launch} {g : gT} {y : MethodName} {K : KX} {av : List Value} {h : hp} {P : pT} {E : eT} {mc ms : Nat}
theorem lD_entry (vs : List Value) (hv : ∀ v ∈ vs, v.category = 1) : ∀ (i : Nat) (o : Nat) (v : Value), (vs.map some)[i]? = some (some v) → (o + i, v) ∈ lv_args o vs := by
  induction vs with
  | nil => intro i o v hi; simp at hi
  | cons x vs ih =>
    intro i o v hi
    have hx : x.category = 1 := hv x List.mem_cons_self
    cases i with
    | zero => simp at hi; subst hi; simp [lv_args]
    | succ i =>
      simp only [List.map_cons, List.getElem?_cons_succ] at hi
      have := ih (fun v hv' => hv v (List.mem_cons_of_mem _ hv')) i (o + 1) v hi
      simp only [lv_args, hx]
      rw [show o + (i + 1) = o + 1 + i by omega]
      exact List.mem_cons_of_mem _ this
theorem lg_sl1 (vs : List Value) (hv : ∀ v ∈ vs, v.category = 1) : (lg_sl vs).length = vs.length := by
  induction vs with
  | nil => rfl
  | cons x vs ih =>
    have hx : x.category = 1 := hv x List.mem_cons_self
    have := ih (fun v hv' => hv v (List.mem_cons_of_mem _ hv'))
    simp only [lg_sl] at this ⊢
    rw [List.flatMap_cons, List.length_append, this, hx]
    simp
    omega
theorem MM.of (hy : plainName y.cls = true) (hK : K.hh = []) (hown : y.cls = K.own) (hnm : y.name = K.nm) (hv : ∀ v ∈ av, v.category = 1) (hl : av.length ≤ K.nL) (htr : l.stackTraces = false)
    (body : ∀ X : CX, Wk l g X K P E mc ms 0 (av.map some ++ List.replicate (K.nL - av.length) none) [] h) : MM l g y K av h P E mc ms := by
  refine vy_ofW (cc := K.cc) (maxL := K.nL) (ret := K.ret) hy rfl ?_
  intro p e s m args below meth c s₁ B hml ht hpc
  obtain ⟨rfl, h1, h2, h3, h4⟩ := hpc
  have hts := atoms_spec (ws := ws_ y K.cc K.nL K.ret) B.pre
  have C : Cok l g (p, e, s, m, av.toArray, below, meth, c, mc, ms) K := by
    refine ⟨B.exec, B.bytes, hml, ?_, fun w hw => hts w (List.mem_cons_of_mem _ hw), B.returns, B.notSynchronized, ?_, h1, h2, h4, ?_, htr⟩
    · rw [← hown]; exact findClass_of_methodNamed B.named
    · rw [← hnm]; exact (name_of_methodNamed B.named B.method).1
    · rw [hK]
      show c.exceptionTable.toList = []
      cases hc : c.exceptionTable.toList with
      | nil => rfl
      | cons x r => exact (ht x (by rw [hc]; exact List.mem_cons_self)).elim
  have hl2 : (lg_sl av).length ≤ K.nL := by rw [lg_sl1 av hv]; exact hl
  have hle := lv_entry av (n := K.nL) hl2
  rw [lg_entry_eq]
  refine body (p, e, s, m, av.toArray, below, meth, c, mc, ms) C s.heap [] _ 0 0 (by simp) (by simp) h3 va_S.rf ⟨hle.1, hle.2.1, fun i v hi => ?_⟩
  by_cases hi2 : i < av.length
  · rw [List.getElem?_append_left (by simpa using hi2)] at hi
    have hmem := lD_entry av hv i 0 v hi
    rw [Nat.zero_add] at hmem
    refine ⟨hle.2.2 (i, v) hmem, ?_⟩
    rw [List.getElem?_map] at hi
    cases hg : av[i]? with
    | none => rw [hg] at hi; cases hi
    | some w => rw [hg] at hi; cases hi; exact hv _ (List.mem_of_getElem? hg)
  · rw [List.getElem?_append_right (by simpa using hi2)] at hi
    rw [List.getElem?_replicate] at hi
    split at hi <;> simp at hi
theorem MW.of (hy : plainName y.cls = true) (hown : y.cls = K.own) (hnm : y.name = K.nm) (hv : ∀ v ∈ av, v.category = 1) (hl : av.length ≤ K.nL) (htr : l.stackTraces = false)
    (body : ∀ X : CX, Wk l g X K P E mc ms 0 (av.map some ++ List.replicate (K.nL - av.length) none) [] h) : MW l g y K av h P E mc ms := by
  refine vy_ofWH (cc := K.cc) (maxL := K.nL) (ret := K.ret) (hh := K.hh) hy rfl ?_
  intro p e s m args below meth c s₁ B hml hpc
  obtain ⟨rfl, h1, h2, h3, h4⟩ := hpc
  have hts := atoms_spec (ws := wsW_ y K.cc K.nL K.ret K.hh) B.pre
  have C : Cok l g (p, e, s, m, av.toArray, below, meth, c, mc, ms) K := by
    refine ⟨B.exec, B.bytes, hml, ?_, fun w hw => hts w (List.mem_cons_of_mem _ hw), B.returns, B.notSynchronized, ?_, h1, h2, h4, vy_table (x := y) B (hts _ List.mem_cons_self), htr⟩
    · rw [← hown]; exact findClass_of_methodNamed B.named
    · rw [← hnm]; exact (name_of_methodNamed B.named B.method).1
  have hl2 : (lg_sl av).length ≤ K.nL := by rw [lg_sl1 av hv]; exact hl
  have hle := lv_entry av (n := K.nL) hl2
  rw [lg_entry_eq]
  refine body (p, e, s, m, av.toArray, below, meth, c, mc, ms) C s.heap [] _ 0 0 (by simp) (by simp) h3 va_S.rf ⟨hle.1, hle.2.1, fun i v hi => ?_⟩
  by_cases hi2 : i < av.length
  · rw [List.getElem?_append_left (by simpa using hi2)] at hi
    have hmem := lD_entry av hv i 0 v hi
    rw [Nat.zero_add] at hmem
    refine ⟨hle.2.2 (i, v) hmem, ?_⟩
    rw [List.getElem?_map] at hi
    cases hg : av[i]? with
    | none => rw [hg] at hi; cases hi
    | some w => rw [hg] at hi; cases hi; exact hv _ (List.mem_of_getElem? hg)
  · rw [List.getElem?_append_right (by simpa using hi2)] at hi
    rw [List.getElem?_replicate] at hi
    split at hi <;> simp at hi
end BODY
