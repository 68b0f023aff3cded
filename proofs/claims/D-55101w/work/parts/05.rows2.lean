/-! ROWS 2: fields, new, arrays, statics, casts, over the abstract heap (printed by tools/gen_rows2.py) -/
set_option maxRecDepth 100000
/-- a field reference of a class's pool, for objects of class ci: their field kf -/
def FGs (own : String) (idx ci kf : Nat) : Prop := ∃ (C : String) (T : u_T) (N : Nat) (ref : String), clT[ci]? = some (C, T, N) ∧ kf < N ∧ (∀ w ∈ u_ws C T N, w ∈ lw_all) ∧
  (Cond.fieldLink own idx ref (T kf).2.1 (T kf).2.2.1 ∈ lw_all ∨ ∃ host, Cond.fieldLinkNest own idx ref (T kf).2.1 (T kf).2.2.1 host ∈ lw_tbl) ∧ ((T kf).1 = ref ∨ Cond.sameField ref (T kf).1 (T kf).2.1 (T kf).2.2.1 ∈ lw_all)
def FPs (own nm : String) (idx ci kf : Nat) (ty : FieldType) : Prop := ∃ (C : String) (T : u_T) (N : Nat) (ref : String) (ty0 : Nat → FieldType), clT[ci]? = some (C, T, N) ∧ kf < N ∧ (∀ w ∈ u_ws C T N, w ∈ lw_all) ∧
  (∀ k, k < N → parseFieldDescriptor (T k).2.2.1 = some (ty0 k)) ∧ (∀ a, a < N → ∀ b, b < N → a ≠ b → (T a).2.1 ≠ (T b).2.1) ∧ ((T kf).1 = ref ∨ Cond.sameField ref (T kf).1 (T kf).2.1 (T kf).2.2.1 ∈ lw_all) ∧ parseFieldDescriptor (T kf).2.2.1 = some ty ∧
  ((Cond.fieldLink own idx ref (T kf).2.1 (T kf).2.2.1 ∈ lw_all ∧ (T kf).2.2.2 = false) ∨ (∃ host, Cond.fieldLinkNest own idx ref (T kf).2.1 (T kf).2.2.1 host ∈ lw_tbl ∧ (T kf).2.2.2 = false) ∨ (Cond.fieldLink own idx ref (T kf).2.1 (T kf).2.2.1 ∈ lw_all ∧ (T kf).2.2.2 = true ∧ nm = "<init>" ∧ (T kf).1 = own))
/-- a class reference that 'new' uses -/
def NWs (own : String) (idx ci : Nat) (fs0 : List Value) (N : Nat) : Prop := ∃ (C : String) (T : u_T) (ty : Nat → FieldType), clT[ci]? = some (C, T, N) ∧ Cond.classLink own idx C ∈ lw_all ∧ Cond.instantiable C N ∈ lw_all ∧ Cond.initialized C ∈ lw_all ∧ (∀ w ∈ u_ws C T N, w ∈ lw_all) ∧
  (∀ k, k < N → parseFieldDescriptor (T k).2.2.1 = some (ty k)) ∧ ∀ j, j < N → defaultValue (ty j) = vp_V fs0 j
/-- an index into an array -/
def ixI (i : Int32) (j : Nat) : Prop := i.toNatClampNeg = j ∧ ¬ i < 0
theorem ixI_n {j : Nat} (h : j < 2 ^ 31) : ixI (nI j) j := ⟨nI_clamp h, nI_pos h⟩
theorem ixI_in {i : Int32} {j n : Nat} (h : ixI i j) (hj : j < n) : vp_in i n := by
  rintro (q | q)
  · exact h.2 q
  · rw [h.1] at q; omega
section ROWS2
variable {l : Launch} {g : gT} {X : CX} {K : KX} {P : pT} {E : eT} {n k pc : Nat} {L : List (Option Value)} {st : List Value} {h : hp}
theorem same_of {C : Cok l g X K} {ref o f d : String} (h : o = ref ∨ Cond.sameField ref o f d ∈ lw_all) : ∀ x, X.s.fieldFound? o f d = some x → X.s.fieldFound? ref f d = some x := by
  rcases h with e | e
  · subst e; exact fun x hx => hx
  · exact fun x hx => u_same (C.ts _ e) x hx
theorem k_get {a ci kf idx : Nat} {fs : List Value} {v : Value} (f : FGs K.own idx ci kf) (hd : decode K.cc pc = .ok (.getfield idx, 3)) (ha : h a = some (oB ci fs)) (hv : fs[kf]? = some v) (w : Wk l g X K P E n k (pc + 3) L (v :: st) h) : Wk l g X K P E n k pc L (.ref a :: st) h := by
  intro C H locs ls cells slots h1 h2 hR hS hL
  obtain ⟨Cn, T, N, ref, hc, hk, hin, hlk, hsm⟩ := f
  rcases hlk with hlk | ⟨host, hlk⟩
  · exact va_get C.ex C.cb C.ts hin C.ow C.gk.1 (hR.P ha) 0 rfl hc kf hk (C.ts _ hlk) (same_of (C := C) hsm) hv hd (w C H locs ls cells slots h1 h2 hR hS hL)
  · exact va_getN C.ex C.cb C.ts hin C.ow C.gk.1 (hR.P ha) 0 rfl hc kf hk (C.gk.2.1.use hlk rfl X.a) (same_of (C := C) hsm) hv hd (w C H locs ls cells slots h1 h2 hR hS hL)
theorem k_put {a ci kf idx : Nat} {fs : List Value} {v : Value} {ty : FieldType} (f : FPs K.own K.nm idx ci kf ty) (hd : decode K.cc pc = .ok (.putfield idx, 3)) (ha : h a = some (oB ci fs)) (hl : kf < fs.length) (hn : narrow ty v = v) (hf : fits ty v = true) (w : Wk l g X K P E n k (pc + 3) L st (hu h a (oB ci (fs.set kf v)))) : Wk l g X K P E n k pc L (v :: .ref a :: st) h := by
  intro C H locs ls cells slots h1 h2 hR hS hL
  obtain ⟨Cn, T, N, ref, ty0, hc, hk, hin, hty, hnm, hsm, hd0, hlk⟩ := f
  have hK := C.gk.1
  have hap := va_apart (own := K.own) C.ts hin ty0 hty hnm hK hc
  obtain ⟨hA, r, hr1, cell, q1, q2, q3, q4⟩ := hR a _ ha
  have hr : r = (Cn, T, N) := Option.some.inj (hr1.symm.trans hc)
  subst hr
  obtain ⟨hSl, hfc, kC, hkC, hkind⟩ := hK.1 ci _ hc
  obtain ⟨cf, kf0, fi, fd, hi, hsl⟩ := hSl kf hk
  have hst := (u_facts hfc hkC (u_lays C.ts hin hk) hi).1
  have key : ∀ H' : Heap, H'[a]? = some (cell.setSlot fd.slot v) → H'.size = H.size → (∀ q, q ≠ a → H'[q]? = H[q]?) →
      W X.p l X.e (rmL K.d X.mc X.ms) X.s X.m X.a X.bl X.me X.c H' (locs ++ [⟨a, fd.slot⟩]) cells slots (vy_MQ X.bl (Qn g P) (Qx g E) X.a X.s X.mc X.ms (Ag g)) (F0 X.m (pc + 3) ls st) := by
    intro H' e1 e2 e3
    rw [hsl] at e1
    exact w C H' _ ls cells slots h1 h2 (hR.set hA ⟨_, hc, t_OB.to (V := updV (vp_V fs) kf v) ⟨_, e1, q2, q3, t_set q4 hap hk v⟩ (fun j _ => vp_updV_set hl v j)⟩ (fun q hq _ => e3 q hq)) (hS.put e2 e3 hA) hL
  have hlt : fd.slot < cell.slots.size := by rw [hsl]; exact k2_hasslot (q4 kf hk)
  have hlay := C.ts _ (hin _ (u_in_lay hk))
  unfold u_lay at hlay
  rcases hlk with ⟨hlk, hfin⟩ | ⟨host, hlk, hfin⟩ | ⟨hlk, hfin, hini, hdecl⟩
  · rw [if_neg (by rw [hfin]; decide)] at hlay
    have h6 := u_store hfc hkC hkind hlay hi hd0 hn hf
    exact W.putK C.ex C.cb (f := fd) ⟨C.ow, C.ts _ hlk, ⟨_, _, _, same_of (C := C) hsm _ hi⟩, hst⟩ (by rw [q2]; exact h6) q1 q3 hlt rfl rfl hd key
  · rw [if_neg (by rw [hfin]; decide)] at hlay
    have h6 := u_store hfc hkC hkind hlay hi hd0 hn hf
    exact va_WputK C.ex C.cb C.ow (C.gk.2.1.use hlk rfl X.a) (same_of (C := C) hsm _ hi) hst (by rw [q2]; exact h6) q1 q3 hlt rfl rfl hd key
  · rw [if_pos hfin] at hlay
    have hcf : X.m.cls = cf := by
      obtain ⟨_, _, c', _, _, _, -, -, hf', -, -, -, hown2, -⟩ := Cond.laysFinal_spec hlay
      have e1 : c' = cf := by have := hi.symm.trans hf'; simp at this; exact this.1.symm
      rw [hdecl] at hown2
      rw [← e1]; exact Option.some.inj (C.ow.symm.trans hown2)
    have h6 := u_fits hfc hkC hkind (Or.inr hlay) hi hd0 hn hf
    exact W.putFinK C.ex C.cb C.ow (C.ts _ hlk) (same_of (C := C) hsm _ hi) hst hcf (C.nm.trans hini) (by rw [q2]; exact h6) q1 q3 hlt rfl rfl hd key
theorem k_g0 {a ci idx : Nat} {v : Value} {ur : List Value} (f : FGs K.own idx ci 0) (hd : decode K.cc pc = .ok (.getfield idx, 3)) (ha : h a = some (oB ci (v :: ur))) (w : Wk l g X K P E n k (pc + 3) L (v :: st) h) : Wk l g X K P E n k pc L (.ref a :: st) h := k_get f hd ha rfl w
theorem k_p0 {a ci idx : Nat} {v v0 : Value} {ty : FieldType} {ur : List Value} (f : FPs K.own K.nm idx ci 0 ty) (hd : decode K.cc pc = .ok (.putfield idx, 3)) (ha : h a = some (oB ci (v0 :: ur))) (hn : narrow ty v = v) (hf : fits ty v = true) (w : Wk l g X K P E n k (pc + 3) L st (hu h a (oB ci (v :: ur)))) : Wk l g X K P E n k pc L (v :: .ref a :: st) h := k_put f hd ha (by simp only [List.length_cons]; omega) hn hf w
theorem k_q0 {a ci idx : Nat} {v v0 : Value} {ty : FieldType} {ur : List Value} (f : FPs K.own K.nm idx ci 0 ty) (hd : decode K.cc pc = .ok (.putfield idx, 3)) (hn : narrow ty v = v) (hf : fits ty v = true) (w : Wk l g X K P E n k (pc + 3) L st (hu h a (oB ci (v :: ur)))) : Wk l g X K P E n k pc L (v :: .ref a :: st) (hu h a (oB ci (v0 :: ur))) := k_p0 f hd hu_s hn hf (Wk.heap hu_u.symm w)
theorem k_g1 {a ci idx : Nat} {v : Value} {u0 : Value} {ur : List Value} (f : FGs K.own idx ci 1) (hd : decode K.cc pc = .ok (.getfield idx, 3)) (ha : h a = some (oB ci (u0 :: v :: ur))) (w : Wk l g X K P E n k (pc + 3) L (v :: st) h) : Wk l g X K P E n k pc L (.ref a :: st) h := k_get f hd ha rfl w
theorem k_p1 {a ci idx : Nat} {v v0 : Value} {ty : FieldType} {u0 : Value} {ur : List Value} (f : FPs K.own K.nm idx ci 1 ty) (hd : decode K.cc pc = .ok (.putfield idx, 3)) (ha : h a = some (oB ci (u0 :: v0 :: ur))) (hn : narrow ty v = v) (hf : fits ty v = true) (w : Wk l g X K P E n k (pc + 3) L st (hu h a (oB ci (u0 :: v :: ur)))) : Wk l g X K P E n k pc L (v :: .ref a :: st) h := k_put f hd ha (by simp only [List.length_cons]; omega) hn hf w
theorem k_q1 {a ci idx : Nat} {v v0 : Value} {ty : FieldType} {u0 : Value} {ur : List Value} (f : FPs K.own K.nm idx ci 1 ty) (hd : decode K.cc pc = .ok (.putfield idx, 3)) (hn : narrow ty v = v) (hf : fits ty v = true) (w : Wk l g X K P E n k (pc + 3) L st (hu h a (oB ci (u0 :: v :: ur)))) : Wk l g X K P E n k pc L (v :: .ref a :: st) (hu h a (oB ci (u0 :: v0 :: ur))) := k_p1 f hd hu_s hn hf (Wk.heap hu_u.symm w)
theorem k_g2 {a ci idx : Nat} {v : Value} {u0 u1 : Value} {ur : List Value} (f : FGs K.own idx ci 2) (hd : decode K.cc pc = .ok (.getfield idx, 3)) (ha : h a = some (oB ci (u0 :: u1 :: v :: ur))) (w : Wk l g X K P E n k (pc + 3) L (v :: st) h) : Wk l g X K P E n k pc L (.ref a :: st) h := k_get f hd ha rfl w
theorem k_p2 {a ci idx : Nat} {v v0 : Value} {ty : FieldType} {u0 u1 : Value} {ur : List Value} (f : FPs K.own K.nm idx ci 2 ty) (hd : decode K.cc pc = .ok (.putfield idx, 3)) (ha : h a = some (oB ci (u0 :: u1 :: v0 :: ur))) (hn : narrow ty v = v) (hf : fits ty v = true) (w : Wk l g X K P E n k (pc + 3) L st (hu h a (oB ci (u0 :: u1 :: v :: ur)))) : Wk l g X K P E n k pc L (v :: .ref a :: st) h := k_put f hd ha (by simp only [List.length_cons]; omega) hn hf w
theorem k_q2 {a ci idx : Nat} {v v0 : Value} {ty : FieldType} {u0 u1 : Value} {ur : List Value} (f : FPs K.own K.nm idx ci 2 ty) (hd : decode K.cc pc = .ok (.putfield idx, 3)) (hn : narrow ty v = v) (hf : fits ty v = true) (w : Wk l g X K P E n k (pc + 3) L st (hu h a (oB ci (u0 :: u1 :: v :: ur)))) : Wk l g X K P E n k pc L (v :: .ref a :: st) (hu h a (oB ci (u0 :: u1 :: v0 :: ur))) := k_p2 f hd hu_s hn hf (Wk.heap hu_u.symm w)
theorem k_g3 {a ci idx : Nat} {v : Value} {u0 u1 u2 : Value} {ur : List Value} (f : FGs K.own idx ci 3) (hd : decode K.cc pc = .ok (.getfield idx, 3)) (ha : h a = some (oB ci (u0 :: u1 :: u2 :: v :: ur))) (w : Wk l g X K P E n k (pc + 3) L (v :: st) h) : Wk l g X K P E n k pc L (.ref a :: st) h := k_get f hd ha rfl w
theorem k_p3 {a ci idx : Nat} {v v0 : Value} {ty : FieldType} {u0 u1 u2 : Value} {ur : List Value} (f : FPs K.own K.nm idx ci 3 ty) (hd : decode K.cc pc = .ok (.putfield idx, 3)) (ha : h a = some (oB ci (u0 :: u1 :: u2 :: v0 :: ur))) (hn : narrow ty v = v) (hf : fits ty v = true) (w : Wk l g X K P E n k (pc + 3) L st (hu h a (oB ci (u0 :: u1 :: u2 :: v :: ur)))) : Wk l g X K P E n k pc L (v :: .ref a :: st) h := k_put f hd ha (by simp only [List.length_cons]; omega) hn hf w
theorem k_q3 {a ci idx : Nat} {v v0 : Value} {ty : FieldType} {u0 u1 u2 : Value} {ur : List Value} (f : FPs K.own K.nm idx ci 3 ty) (hd : decode K.cc pc = .ok (.putfield idx, 3)) (hn : narrow ty v = v) (hf : fits ty v = true) (w : Wk l g X K P E n k (pc + 3) L st (hu h a (oB ci (u0 :: u1 :: u2 :: v :: ur)))) : Wk l g X K P E n k pc L (v :: .ref a :: st) (hu h a (oB ci (u0 :: u1 :: u2 :: v0 :: ur))) := k_p3 f hd hu_s hn hf (Wk.heap hu_u.symm w)
theorem k_g4 {a ci idx : Nat} {v : Value} {u0 u1 u2 u3 : Value} {ur : List Value} (f : FGs K.own idx ci 4) (hd : decode K.cc pc = .ok (.getfield idx, 3)) (ha : h a = some (oB ci (u0 :: u1 :: u2 :: u3 :: v :: ur))) (w : Wk l g X K P E n k (pc + 3) L (v :: st) h) : Wk l g X K P E n k pc L (.ref a :: st) h := k_get f hd ha rfl w
theorem k_p4 {a ci idx : Nat} {v v0 : Value} {ty : FieldType} {u0 u1 u2 u3 : Value} {ur : List Value} (f : FPs K.own K.nm idx ci 4 ty) (hd : decode K.cc pc = .ok (.putfield idx, 3)) (ha : h a = some (oB ci (u0 :: u1 :: u2 :: u3 :: v0 :: ur))) (hn : narrow ty v = v) (hf : fits ty v = true) (w : Wk l g X K P E n k (pc + 3) L st (hu h a (oB ci (u0 :: u1 :: u2 :: u3 :: v :: ur)))) : Wk l g X K P E n k pc L (v :: .ref a :: st) h := k_put f hd ha (by simp only [List.length_cons]; omega) hn hf w
theorem k_q4 {a ci idx : Nat} {v v0 : Value} {ty : FieldType} {u0 u1 u2 u3 : Value} {ur : List Value} (f : FPs K.own K.nm idx ci 4 ty) (hd : decode K.cc pc = .ok (.putfield idx, 3)) (hn : narrow ty v = v) (hf : fits ty v = true) (w : Wk l g X K P E n k (pc + 3) L st (hu h a (oB ci (u0 :: u1 :: u2 :: u3 :: v :: ur)))) : Wk l g X K P E n k pc L (v :: .ref a :: st) (hu h a (oB ci (u0 :: u1 :: u2 :: u3 :: v0 :: ur))) := k_p4 f hd hu_s hn hf (Wk.heap hu_u.symm w)
theorem k_g5 {a ci idx : Nat} {v : Value} {u0 u1 u2 u3 u4 : Value} {ur : List Value} (f : FGs K.own idx ci 5) (hd : decode K.cc pc = .ok (.getfield idx, 3)) (ha : h a = some (oB ci (u0 :: u1 :: u2 :: u3 :: u4 :: v :: ur))) (w : Wk l g X K P E n k (pc + 3) L (v :: st) h) : Wk l g X K P E n k pc L (.ref a :: st) h := k_get f hd ha rfl w
theorem k_p5 {a ci idx : Nat} {v v0 : Value} {ty : FieldType} {u0 u1 u2 u3 u4 : Value} {ur : List Value} (f : FPs K.own K.nm idx ci 5 ty) (hd : decode K.cc pc = .ok (.putfield idx, 3)) (ha : h a = some (oB ci (u0 :: u1 :: u2 :: u3 :: u4 :: v0 :: ur))) (hn : narrow ty v = v) (hf : fits ty v = true) (w : Wk l g X K P E n k (pc + 3) L st (hu h a (oB ci (u0 :: u1 :: u2 :: u3 :: u4 :: v :: ur)))) : Wk l g X K P E n k pc L (v :: .ref a :: st) h := k_put f hd ha (by simp only [List.length_cons]; omega) hn hf w
theorem k_q5 {a ci idx : Nat} {v v0 : Value} {ty : FieldType} {u0 u1 u2 u3 u4 : Value} {ur : List Value} (f : FPs K.own K.nm idx ci 5 ty) (hd : decode K.cc pc = .ok (.putfield idx, 3)) (hn : narrow ty v = v) (hf : fits ty v = true) (w : Wk l g X K P E n k (pc + 3) L st (hu h a (oB ci (u0 :: u1 :: u2 :: u3 :: u4 :: v :: ur)))) : Wk l g X K P E n k pc L (v :: .ref a :: st) (hu h a (oB ci (u0 :: u1 :: u2 :: u3 :: u4 :: v0 :: ur))) := k_p5 f hd hu_s hn hf (Wk.heap hu_u.symm w)
theorem k_g6 {a ci idx : Nat} {v : Value} {u0 u1 u2 u3 u4 u5 : Value} {ur : List Value} (f : FGs K.own idx ci 6) (hd : decode K.cc pc = .ok (.getfield idx, 3)) (ha : h a = some (oB ci (u0 :: u1 :: u2 :: u3 :: u4 :: u5 :: v :: ur))) (w : Wk l g X K P E n k (pc + 3) L (v :: st) h) : Wk l g X K P E n k pc L (.ref a :: st) h := k_get f hd ha rfl w
theorem k_p6 {a ci idx : Nat} {v v0 : Value} {ty : FieldType} {u0 u1 u2 u3 u4 u5 : Value} {ur : List Value} (f : FPs K.own K.nm idx ci 6 ty) (hd : decode K.cc pc = .ok (.putfield idx, 3)) (ha : h a = some (oB ci (u0 :: u1 :: u2 :: u3 :: u4 :: u5 :: v0 :: ur))) (hn : narrow ty v = v) (hf : fits ty v = true) (w : Wk l g X K P E n k (pc + 3) L st (hu h a (oB ci (u0 :: u1 :: u2 :: u3 :: u4 :: u5 :: v :: ur)))) : Wk l g X K P E n k pc L (v :: .ref a :: st) h := k_put f hd ha (by simp only [List.length_cons]; omega) hn hf w
theorem k_q6 {a ci idx : Nat} {v v0 : Value} {ty : FieldType} {u0 u1 u2 u3 u4 u5 : Value} {ur : List Value} (f : FPs K.own K.nm idx ci 6 ty) (hd : decode K.cc pc = .ok (.putfield idx, 3)) (hn : narrow ty v = v) (hf : fits ty v = true) (w : Wk l g X K P E n k (pc + 3) L st (hu h a (oB ci (u0 :: u1 :: u2 :: u3 :: u4 :: u5 :: v :: ur)))) : Wk l g X K P E n k pc L (v :: .ref a :: st) (hu h a (oB ci (u0 :: u1 :: u2 :: u3 :: u4 :: u5 :: v0 :: ur))) := k_p6 f hd hu_s hn hf (Wk.heap hu_u.symm w)
theorem k_g7 {a ci idx : Nat} {v : Value} {u0 u1 u2 u3 u4 u5 u6 : Value} {ur : List Value} (f : FGs K.own idx ci 7) (hd : decode K.cc pc = .ok (.getfield idx, 3)) (ha : h a = some (oB ci (u0 :: u1 :: u2 :: u3 :: u4 :: u5 :: u6 :: v :: ur))) (w : Wk l g X K P E n k (pc + 3) L (v :: st) h) : Wk l g X K P E n k pc L (.ref a :: st) h := k_get f hd ha rfl w
theorem k_p7 {a ci idx : Nat} {v v0 : Value} {ty : FieldType} {u0 u1 u2 u3 u4 u5 u6 : Value} {ur : List Value} (f : FPs K.own K.nm idx ci 7 ty) (hd : decode K.cc pc = .ok (.putfield idx, 3)) (ha : h a = some (oB ci (u0 :: u1 :: u2 :: u3 :: u4 :: u5 :: u6 :: v0 :: ur))) (hn : narrow ty v = v) (hf : fits ty v = true) (w : Wk l g X K P E n k (pc + 3) L st (hu h a (oB ci (u0 :: u1 :: u2 :: u3 :: u4 :: u5 :: u6 :: v :: ur)))) : Wk l g X K P E n k pc L (v :: .ref a :: st) h := k_put f hd ha (by simp only [List.length_cons]; omega) hn hf w
theorem k_q7 {a ci idx : Nat} {v v0 : Value} {ty : FieldType} {u0 u1 u2 u3 u4 u5 u6 : Value} {ur : List Value} (f : FPs K.own K.nm idx ci 7 ty) (hd : decode K.cc pc = .ok (.putfield idx, 3)) (hn : narrow ty v = v) (hf : fits ty v = true) (w : Wk l g X K P E n k (pc + 3) L st (hu h a (oB ci (u0 :: u1 :: u2 :: u3 :: u4 :: u5 :: u6 :: v :: ur)))) : Wk l g X K P E n k pc L (v :: .ref a :: st) (hu h a (oB ci (u0 :: u1 :: u2 :: u3 :: u4 :: u5 :: u6 :: v0 :: ur))) := k_p7 f hd hu_s hn hf (Wk.heap hu_u.symm w)
theorem k_g8 {a ci idx : Nat} {v : Value} {u0 u1 u2 u3 u4 u5 u6 u7 : Value} {ur : List Value} (f : FGs K.own idx ci 8) (hd : decode K.cc pc = .ok (.getfield idx, 3)) (ha : h a = some (oB ci (u0 :: u1 :: u2 :: u3 :: u4 :: u5 :: u6 :: u7 :: v :: ur))) (w : Wk l g X K P E n k (pc + 3) L (v :: st) h) : Wk l g X K P E n k pc L (.ref a :: st) h := k_get f hd ha rfl w
theorem k_p8 {a ci idx : Nat} {v v0 : Value} {ty : FieldType} {u0 u1 u2 u3 u4 u5 u6 u7 : Value} {ur : List Value} (f : FPs K.own K.nm idx ci 8 ty) (hd : decode K.cc pc = .ok (.putfield idx, 3)) (ha : h a = some (oB ci (u0 :: u1 :: u2 :: u3 :: u4 :: u5 :: u6 :: u7 :: v0 :: ur))) (hn : narrow ty v = v) (hf : fits ty v = true) (w : Wk l g X K P E n k (pc + 3) L st (hu h a (oB ci (u0 :: u1 :: u2 :: u3 :: u4 :: u5 :: u6 :: u7 :: v :: ur)))) : Wk l g X K P E n k pc L (v :: .ref a :: st) h := k_put f hd ha (by simp only [List.length_cons]; omega) hn hf w
theorem k_q8 {a ci idx : Nat} {v v0 : Value} {ty : FieldType} {u0 u1 u2 u3 u4 u5 u6 u7 : Value} {ur : List Value} (f : FPs K.own K.nm idx ci 8 ty) (hd : decode K.cc pc = .ok (.putfield idx, 3)) (hn : narrow ty v = v) (hf : fits ty v = true) (w : Wk l g X K P E n k (pc + 3) L st (hu h a (oB ci (u0 :: u1 :: u2 :: u3 :: u4 :: u5 :: u6 :: u7 :: v :: ur)))) : Wk l g X K P E n k pc L (v :: .ref a :: st) (hu h a (oB ci (u0 :: u1 :: u2 :: u3 :: u4 :: u5 :: u6 :: u7 :: v0 :: ur))) := k_p8 f hd hu_s hn hf (Wk.heap hu_u.symm w)
theorem k_g9 {a ci idx : Nat} {v : Value} {u0 u1 u2 u3 u4 u5 u6 u7 u8 : Value} {ur : List Value} (f : FGs K.own idx ci 9) (hd : decode K.cc pc = .ok (.getfield idx, 3)) (ha : h a = some (oB ci (u0 :: u1 :: u2 :: u3 :: u4 :: u5 :: u6 :: u7 :: u8 :: v :: ur))) (w : Wk l g X K P E n k (pc + 3) L (v :: st) h) : Wk l g X K P E n k pc L (.ref a :: st) h := k_get f hd ha rfl w
theorem k_p9 {a ci idx : Nat} {v v0 : Value} {ty : FieldType} {u0 u1 u2 u3 u4 u5 u6 u7 u8 : Value} {ur : List Value} (f : FPs K.own K.nm idx ci 9 ty) (hd : decode K.cc pc = .ok (.putfield idx, 3)) (ha : h a = some (oB ci (u0 :: u1 :: u2 :: u3 :: u4 :: u5 :: u6 :: u7 :: u8 :: v0 :: ur))) (hn : narrow ty v = v) (hf : fits ty v = true) (w : Wk l g X K P E n k (pc + 3) L st (hu h a (oB ci (u0 :: u1 :: u2 :: u3 :: u4 :: u5 :: u6 :: u7 :: u8 :: v :: ur)))) : Wk l g X K P E n k pc L (v :: .ref a :: st) h := k_put f hd ha (by simp only [List.length_cons]; omega) hn hf w
theorem k_q9 {a ci idx : Nat} {v v0 : Value} {ty : FieldType} {u0 u1 u2 u3 u4 u5 u6 u7 u8 : Value} {ur : List Value} (f : FPs K.own K.nm idx ci 9 ty) (hd : decode K.cc pc = .ok (.putfield idx, 3)) (hn : narrow ty v = v) (hf : fits ty v = true) (w : Wk l g X K P E n k (pc + 3) L st (hu h a (oB ci (u0 :: u1 :: u2 :: u3 :: u4 :: u5 :: u6 :: u7 :: u8 :: v :: ur)))) : Wk l g X K P E n k pc L (v :: .ref a :: st) (hu h a (oB ci (u0 :: u1 :: u2 :: u3 :: u4 :: u5 :: u6 :: u7 :: u8 :: v0 :: ur))) := k_p9 f hd hu_s hn hf (Wk.heap hu_u.symm w)
theorem k_g10 {a ci idx : Nat} {v : Value} {u0 u1 u2 u3 u4 u5 u6 u7 u8 u9 : Value} {ur : List Value} (f : FGs K.own idx ci 10) (hd : decode K.cc pc = .ok (.getfield idx, 3)) (ha : h a = some (oB ci (u0 :: u1 :: u2 :: u3 :: u4 :: u5 :: u6 :: u7 :: u8 :: u9 :: v :: ur))) (w : Wk l g X K P E n k (pc + 3) L (v :: st) h) : Wk l g X K P E n k pc L (.ref a :: st) h := k_get f hd ha rfl w
theorem k_p10 {a ci idx : Nat} {v v0 : Value} {ty : FieldType} {u0 u1 u2 u3 u4 u5 u6 u7 u8 u9 : Value} {ur : List Value} (f : FPs K.own K.nm idx ci 10 ty) (hd : decode K.cc pc = .ok (.putfield idx, 3)) (ha : h a = some (oB ci (u0 :: u1 :: u2 :: u3 :: u4 :: u5 :: u6 :: u7 :: u8 :: u9 :: v0 :: ur))) (hn : narrow ty v = v) (hf : fits ty v = true) (w : Wk l g X K P E n k (pc + 3) L st (hu h a (oB ci (u0 :: u1 :: u2 :: u3 :: u4 :: u5 :: u6 :: u7 :: u8 :: u9 :: v :: ur)))) : Wk l g X K P E n k pc L (v :: .ref a :: st) h := k_put f hd ha (by simp only [List.length_cons]; omega) hn hf w
theorem k_q10 {a ci idx : Nat} {v v0 : Value} {ty : FieldType} {u0 u1 u2 u3 u4 u5 u6 u7 u8 u9 : Value} {ur : List Value} (f : FPs K.own K.nm idx ci 10 ty) (hd : decode K.cc pc = .ok (.putfield idx, 3)) (hn : narrow ty v = v) (hf : fits ty v = true) (w : Wk l g X K P E n k (pc + 3) L st (hu h a (oB ci (u0 :: u1 :: u2 :: u3 :: u4 :: u5 :: u6 :: u7 :: u8 :: u9 :: v :: ur)))) : Wk l g X K P E n k pc L (v :: .ref a :: st) (hu h a (oB ci (u0 :: u1 :: u2 :: u3 :: u4 :: u5 :: u6 :: u7 :: u8 :: u9 :: v0 :: ur))) := k_p10 f hd hu_s hn hf (Wk.heap hu_u.symm w)
theorem k_g11 {a ci idx : Nat} {v : Value} {u0 u1 u2 u3 u4 u5 u6 u7 u8 u9 u10 : Value} {ur : List Value} (f : FGs K.own idx ci 11) (hd : decode K.cc pc = .ok (.getfield idx, 3)) (ha : h a = some (oB ci (u0 :: u1 :: u2 :: u3 :: u4 :: u5 :: u6 :: u7 :: u8 :: u9 :: u10 :: v :: ur))) (w : Wk l g X K P E n k (pc + 3) L (v :: st) h) : Wk l g X K P E n k pc L (.ref a :: st) h := k_get f hd ha rfl w
theorem k_p11 {a ci idx : Nat} {v v0 : Value} {ty : FieldType} {u0 u1 u2 u3 u4 u5 u6 u7 u8 u9 u10 : Value} {ur : List Value} (f : FPs K.own K.nm idx ci 11 ty) (hd : decode K.cc pc = .ok (.putfield idx, 3)) (ha : h a = some (oB ci (u0 :: u1 :: u2 :: u3 :: u4 :: u5 :: u6 :: u7 :: u8 :: u9 :: u10 :: v0 :: ur))) (hn : narrow ty v = v) (hf : fits ty v = true) (w : Wk l g X K P E n k (pc + 3) L st (hu h a (oB ci (u0 :: u1 :: u2 :: u3 :: u4 :: u5 :: u6 :: u7 :: u8 :: u9 :: u10 :: v :: ur)))) : Wk l g X K P E n k pc L (v :: .ref a :: st) h := k_put f hd ha (by simp only [List.length_cons]; omega) hn hf w
theorem k_q11 {a ci idx : Nat} {v v0 : Value} {ty : FieldType} {u0 u1 u2 u3 u4 u5 u6 u7 u8 u9 u10 : Value} {ur : List Value} (f : FPs K.own K.nm idx ci 11 ty) (hd : decode K.cc pc = .ok (.putfield idx, 3)) (hn : narrow ty v = v) (hf : fits ty v = true) (w : Wk l g X K P E n k (pc + 3) L st (hu h a (oB ci (u0 :: u1 :: u2 :: u3 :: u4 :: u5 :: u6 :: u7 :: u8 :: u9 :: u10 :: v :: ur)))) : Wk l g X K P E n k pc L (v :: .ref a :: st) (hu h a (oB ci (u0 :: u1 :: u2 :: u3 :: u4 :: u5 :: u6 :: u7 :: u8 :: u9 :: u10 :: v0 :: ur))) := k_p11 f hd hu_s hn hf (Wk.heap hu_u.symm w)
theorem k_g12 {a ci idx : Nat} {v : Value} {u0 u1 u2 u3 u4 u5 u6 u7 u8 u9 u10 u11 : Value} {ur : List Value} (f : FGs K.own idx ci 12) (hd : decode K.cc pc = .ok (.getfield idx, 3)) (ha : h a = some (oB ci (u0 :: u1 :: u2 :: u3 :: u4 :: u5 :: u6 :: u7 :: u8 :: u9 :: u10 :: u11 :: v :: ur))) (w : Wk l g X K P E n k (pc + 3) L (v :: st) h) : Wk l g X K P E n k pc L (.ref a :: st) h := k_get f hd ha rfl w
theorem k_p12 {a ci idx : Nat} {v v0 : Value} {ty : FieldType} {u0 u1 u2 u3 u4 u5 u6 u7 u8 u9 u10 u11 : Value} {ur : List Value} (f : FPs K.own K.nm idx ci 12 ty) (hd : decode K.cc pc = .ok (.putfield idx, 3)) (ha : h a = some (oB ci (u0 :: u1 :: u2 :: u3 :: u4 :: u5 :: u6 :: u7 :: u8 :: u9 :: u10 :: u11 :: v0 :: ur))) (hn : narrow ty v = v) (hf : fits ty v = true) (w : Wk l g X K P E n k (pc + 3) L st (hu h a (oB ci (u0 :: u1 :: u2 :: u3 :: u4 :: u5 :: u6 :: u7 :: u8 :: u9 :: u10 :: u11 :: v :: ur)))) : Wk l g X K P E n k pc L (v :: .ref a :: st) h := k_put f hd ha (by simp only [List.length_cons]; omega) hn hf w
theorem k_q12 {a ci idx : Nat} {v v0 : Value} {ty : FieldType} {u0 u1 u2 u3 u4 u5 u6 u7 u8 u9 u10 u11 : Value} {ur : List Value} (f : FPs K.own K.nm idx ci 12 ty) (hd : decode K.cc pc = .ok (.putfield idx, 3)) (hn : narrow ty v = v) (hf : fits ty v = true) (w : Wk l g X K P E n k (pc + 3) L st (hu h a (oB ci (u0 :: u1 :: u2 :: u3 :: u4 :: u5 :: u6 :: u7 :: u8 :: u9 :: u10 :: u11 :: v :: ur)))) : Wk l g X K P E n k pc L (v :: .ref a :: st) (hu h a (oB ci (u0 :: u1 :: u2 :: u3 :: u4 :: u5 :: u6 :: u7 :: u8 :: u9 :: u10 :: u11 :: v0 :: ur))) := k_p12 f hd hu_s hn hf (Wk.heap hu_u.symm w)
theorem k_g13 {a ci idx : Nat} {v : Value} {u0 u1 u2 u3 u4 u5 u6 u7 u8 u9 u10 u11 u12 : Value} {ur : List Value} (f : FGs K.own idx ci 13) (hd : decode K.cc pc = .ok (.getfield idx, 3)) (ha : h a = some (oB ci (u0 :: u1 :: u2 :: u3 :: u4 :: u5 :: u6 :: u7 :: u8 :: u9 :: u10 :: u11 :: u12 :: v :: ur))) (w : Wk l g X K P E n k (pc + 3) L (v :: st) h) : Wk l g X K P E n k pc L (.ref a :: st) h := k_get f hd ha rfl w
theorem k_p13 {a ci idx : Nat} {v v0 : Value} {ty : FieldType} {u0 u1 u2 u3 u4 u5 u6 u7 u8 u9 u10 u11 u12 : Value} {ur : List Value} (f : FPs K.own K.nm idx ci 13 ty) (hd : decode K.cc pc = .ok (.putfield idx, 3)) (ha : h a = some (oB ci (u0 :: u1 :: u2 :: u3 :: u4 :: u5 :: u6 :: u7 :: u8 :: u9 :: u10 :: u11 :: u12 :: v0 :: ur))) (hn : narrow ty v = v) (hf : fits ty v = true) (w : Wk l g X K P E n k (pc + 3) L st (hu h a (oB ci (u0 :: u1 :: u2 :: u3 :: u4 :: u5 :: u6 :: u7 :: u8 :: u9 :: u10 :: u11 :: u12 :: v :: ur)))) : Wk l g X K P E n k pc L (v :: .ref a :: st) h := k_put f hd ha (by simp only [List.length_cons]; omega) hn hf w
theorem k_q13 {a ci idx : Nat} {v v0 : Value} {ty : FieldType} {u0 u1 u2 u3 u4 u5 u6 u7 u8 u9 u10 u11 u12 : Value} {ur : List Value} (f : FPs K.own K.nm idx ci 13 ty) (hd : decode K.cc pc = .ok (.putfield idx, 3)) (hn : narrow ty v = v) (hf : fits ty v = true) (w : Wk l g X K P E n k (pc + 3) L st (hu h a (oB ci (u0 :: u1 :: u2 :: u3 :: u4 :: u5 :: u6 :: u7 :: u8 :: u9 :: u10 :: u11 :: u12 :: v :: ur)))) : Wk l g X K P E n k pc L (v :: .ref a :: st) (hu h a (oB ci (u0 :: u1 :: u2 :: u3 :: u4 :: u5 :: u6 :: u7 :: u8 :: u9 :: u10 :: u11 :: u12 :: v0 :: ur))) := k_p13 f hd hu_s hn hf (Wk.heap hu_u.symm w)
theorem k_g14 {a ci idx : Nat} {v : Value} {u0 u1 u2 u3 u4 u5 u6 u7 u8 u9 u10 u11 u12 u13 : Value} {ur : List Value} (f : FGs K.own idx ci 14) (hd : decode K.cc pc = .ok (.getfield idx, 3)) (ha : h a = some (oB ci (u0 :: u1 :: u2 :: u3 :: u4 :: u5 :: u6 :: u7 :: u8 :: u9 :: u10 :: u11 :: u12 :: u13 :: v :: ur))) (w : Wk l g X K P E n k (pc + 3) L (v :: st) h) : Wk l g X K P E n k pc L (.ref a :: st) h := k_get f hd ha rfl w
theorem k_p14 {a ci idx : Nat} {v v0 : Value} {ty : FieldType} {u0 u1 u2 u3 u4 u5 u6 u7 u8 u9 u10 u11 u12 u13 : Value} {ur : List Value} (f : FPs K.own K.nm idx ci 14 ty) (hd : decode K.cc pc = .ok (.putfield idx, 3)) (ha : h a = some (oB ci (u0 :: u1 :: u2 :: u3 :: u4 :: u5 :: u6 :: u7 :: u8 :: u9 :: u10 :: u11 :: u12 :: u13 :: v0 :: ur))) (hn : narrow ty v = v) (hf : fits ty v = true) (w : Wk l g X K P E n k (pc + 3) L st (hu h a (oB ci (u0 :: u1 :: u2 :: u3 :: u4 :: u5 :: u6 :: u7 :: u8 :: u9 :: u10 :: u11 :: u12 :: u13 :: v :: ur)))) : Wk l g X K P E n k pc L (v :: .ref a :: st) h := k_put f hd ha (by simp only [List.length_cons]; omega) hn hf w
theorem k_q14 {a ci idx : Nat} {v v0 : Value} {ty : FieldType} {u0 u1 u2 u3 u4 u5 u6 u7 u8 u9 u10 u11 u12 u13 : Value} {ur : List Value} (f : FPs K.own K.nm idx ci 14 ty) (hd : decode K.cc pc = .ok (.putfield idx, 3)) (hn : narrow ty v = v) (hf : fits ty v = true) (w : Wk l g X K P E n k (pc + 3) L st (hu h a (oB ci (u0 :: u1 :: u2 :: u3 :: u4 :: u5 :: u6 :: u7 :: u8 :: u9 :: u10 :: u11 :: u12 :: u13 :: v :: ur)))) : Wk l g X K P E n k pc L (v :: .ref a :: st) (hu h a (oB ci (u0 :: u1 :: u2 :: u3 :: u4 :: u5 :: u6 :: u7 :: u8 :: u9 :: u10 :: u11 :: u12 :: u13 :: v0 :: ur))) := k_p14 f hd hu_s hn hf (Wk.heap hu_u.symm w)
theorem k_g15 {a ci idx : Nat} {v : Value} {u0 u1 u2 u3 u4 u5 u6 u7 u8 u9 u10 u11 u12 u13 u14 : Value} {ur : List Value} (f : FGs K.own idx ci 15) (hd : decode K.cc pc = .ok (.getfield idx, 3)) (ha : h a = some (oB ci (u0 :: u1 :: u2 :: u3 :: u4 :: u5 :: u6 :: u7 :: u8 :: u9 :: u10 :: u11 :: u12 :: u13 :: u14 :: v :: ur))) (w : Wk l g X K P E n k (pc + 3) L (v :: st) h) : Wk l g X K P E n k pc L (.ref a :: st) h := k_get f hd ha rfl w
theorem k_p15 {a ci idx : Nat} {v v0 : Value} {ty : FieldType} {u0 u1 u2 u3 u4 u5 u6 u7 u8 u9 u10 u11 u12 u13 u14 : Value} {ur : List Value} (f : FPs K.own K.nm idx ci 15 ty) (hd : decode K.cc pc = .ok (.putfield idx, 3)) (ha : h a = some (oB ci (u0 :: u1 :: u2 :: u3 :: u4 :: u5 :: u6 :: u7 :: u8 :: u9 :: u10 :: u11 :: u12 :: u13 :: u14 :: v0 :: ur))) (hn : narrow ty v = v) (hf : fits ty v = true) (w : Wk l g X K P E n k (pc + 3) L st (hu h a (oB ci (u0 :: u1 :: u2 :: u3 :: u4 :: u5 :: u6 :: u7 :: u8 :: u9 :: u10 :: u11 :: u12 :: u13 :: u14 :: v :: ur)))) : Wk l g X K P E n k pc L (v :: .ref a :: st) h := k_put f hd ha (by simp only [List.length_cons]; omega) hn hf w
theorem k_q15 {a ci idx : Nat} {v v0 : Value} {ty : FieldType} {u0 u1 u2 u3 u4 u5 u6 u7 u8 u9 u10 u11 u12 u13 u14 : Value} {ur : List Value} (f : FPs K.own K.nm idx ci 15 ty) (hd : decode K.cc pc = .ok (.putfield idx, 3)) (hn : narrow ty v = v) (hf : fits ty v = true) (w : Wk l g X K P E n k (pc + 3) L st (hu h a (oB ci (u0 :: u1 :: u2 :: u3 :: u4 :: u5 :: u6 :: u7 :: u8 :: u9 :: u10 :: u11 :: u12 :: u13 :: u14 :: v :: ur)))) : Wk l g X K P E n k pc L (v :: .ref a :: st) (hu h a (oB ci (u0 :: u1 :: u2 :: u3 :: u4 :: u5 :: u6 :: u7 :: u8 :: u9 :: u10 :: u11 :: u12 :: u13 :: u14 :: v0 :: ur))) := k_p15 f hd hu_s hn hf (Wk.heap hu_u.symm w)
theorem k_g16 {a ci idx : Nat} {v : Value} {u0 u1 u2 u3 u4 u5 u6 u7 u8 u9 u10 u11 u12 u13 u14 u15 : Value} {ur : List Value} (f : FGs K.own idx ci 16) (hd : decode K.cc pc = .ok (.getfield idx, 3)) (ha : h a = some (oB ci (u0 :: u1 :: u2 :: u3 :: u4 :: u5 :: u6 :: u7 :: u8 :: u9 :: u10 :: u11 :: u12 :: u13 :: u14 :: u15 :: v :: ur))) (w : Wk l g X K P E n k (pc + 3) L (v :: st) h) : Wk l g X K P E n k pc L (.ref a :: st) h := k_get f hd ha rfl w
theorem k_p16 {a ci idx : Nat} {v v0 : Value} {ty : FieldType} {u0 u1 u2 u3 u4 u5 u6 u7 u8 u9 u10 u11 u12 u13 u14 u15 : Value} {ur : List Value} (f : FPs K.own K.nm idx ci 16 ty) (hd : decode K.cc pc = .ok (.putfield idx, 3)) (ha : h a = some (oB ci (u0 :: u1 :: u2 :: u3 :: u4 :: u5 :: u6 :: u7 :: u8 :: u9 :: u10 :: u11 :: u12 :: u13 :: u14 :: u15 :: v0 :: ur))) (hn : narrow ty v = v) (hf : fits ty v = true) (w : Wk l g X K P E n k (pc + 3) L st (hu h a (oB ci (u0 :: u1 :: u2 :: u3 :: u4 :: u5 :: u6 :: u7 :: u8 :: u9 :: u10 :: u11 :: u12 :: u13 :: u14 :: u15 :: v :: ur)))) : Wk l g X K P E n k pc L (v :: .ref a :: st) h := k_put f hd ha (by simp only [List.length_cons]; omega) hn hf w
theorem k_q16 {a ci idx : Nat} {v v0 : Value} {ty : FieldType} {u0 u1 u2 u3 u4 u5 u6 u7 u8 u9 u10 u11 u12 u13 u14 u15 : Value} {ur : List Value} (f : FPs K.own K.nm idx ci 16 ty) (hd : decode K.cc pc = .ok (.putfield idx, 3)) (hn : narrow ty v = v) (hf : fits ty v = true) (w : Wk l g X K P E n k (pc + 3) L st (hu h a (oB ci (u0 :: u1 :: u2 :: u3 :: u4 :: u5 :: u6 :: u7 :: u8 :: u9 :: u10 :: u11 :: u12 :: u13 :: u14 :: u15 :: v :: ur)))) : Wk l g X K P E n k pc L (v :: .ref a :: st) (hu h a (oB ci (u0 :: u1 :: u2 :: u3 :: u4 :: u5 :: u6 :: u7 :: u8 :: u9 :: u10 :: u11 :: u12 :: u13 :: u14 :: u15 :: v0 :: ur))) := k_p16 f hd hu_s hn hf (Wk.heap hu_u.symm w)
theorem k_g17 {a ci idx : Nat} {v : Value} {u0 u1 u2 u3 u4 u5 u6 u7 u8 u9 u10 u11 u12 u13 u14 u15 u16 : Value} {ur : List Value} (f : FGs K.own idx ci 17) (hd : decode K.cc pc = .ok (.getfield idx, 3)) (ha : h a = some (oB ci (u0 :: u1 :: u2 :: u3 :: u4 :: u5 :: u6 :: u7 :: u8 :: u9 :: u10 :: u11 :: u12 :: u13 :: u14 :: u15 :: u16 :: v :: ur))) (w : Wk l g X K P E n k (pc + 3) L (v :: st) h) : Wk l g X K P E n k pc L (.ref a :: st) h := k_get f hd ha rfl w
theorem k_p17 {a ci idx : Nat} {v v0 : Value} {ty : FieldType} {u0 u1 u2 u3 u4 u5 u6 u7 u8 u9 u10 u11 u12 u13 u14 u15 u16 : Value} {ur : List Value} (f : FPs K.own K.nm idx ci 17 ty) (hd : decode K.cc pc = .ok (.putfield idx, 3)) (ha : h a = some (oB ci (u0 :: u1 :: u2 :: u3 :: u4 :: u5 :: u6 :: u7 :: u8 :: u9 :: u10 :: u11 :: u12 :: u13 :: u14 :: u15 :: u16 :: v0 :: ur))) (hn : narrow ty v = v) (hf : fits ty v = true) (w : Wk l g X K P E n k (pc + 3) L st (hu h a (oB ci (u0 :: u1 :: u2 :: u3 :: u4 :: u5 :: u6 :: u7 :: u8 :: u9 :: u10 :: u11 :: u12 :: u13 :: u14 :: u15 :: u16 :: v :: ur)))) : Wk l g X K P E n k pc L (v :: .ref a :: st) h := k_put f hd ha (by simp only [List.length_cons]; omega) hn hf w
theorem k_q17 {a ci idx : Nat} {v v0 : Value} {ty : FieldType} {u0 u1 u2 u3 u4 u5 u6 u7 u8 u9 u10 u11 u12 u13 u14 u15 u16 : Value} {ur : List Value} (f : FPs K.own K.nm idx ci 17 ty) (hd : decode K.cc pc = .ok (.putfield idx, 3)) (hn : narrow ty v = v) (hf : fits ty v = true) (w : Wk l g X K P E n k (pc + 3) L st (hu h a (oB ci (u0 :: u1 :: u2 :: u3 :: u4 :: u5 :: u6 :: u7 :: u8 :: u9 :: u10 :: u11 :: u12 :: u13 :: u14 :: u15 :: u16 :: v :: ur)))) : Wk l g X K P E n k pc L (v :: .ref a :: st) (hu h a (oB ci (u0 :: u1 :: u2 :: u3 :: u4 :: u5 :: u6 :: u7 :: u8 :: u9 :: u10 :: u11 :: u12 :: u13 :: u14 :: u15 :: u16 :: v0 :: ur))) := k_p17 f hd hu_s hn hf (Wk.heap hu_u.symm w)
theorem k_g18 {a ci idx : Nat} {v : Value} {u0 u1 u2 u3 u4 u5 u6 u7 u8 u9 u10 u11 u12 u13 u14 u15 u16 u17 : Value} {ur : List Value} (f : FGs K.own idx ci 18) (hd : decode K.cc pc = .ok (.getfield idx, 3)) (ha : h a = some (oB ci (u0 :: u1 :: u2 :: u3 :: u4 :: u5 :: u6 :: u7 :: u8 :: u9 :: u10 :: u11 :: u12 :: u13 :: u14 :: u15 :: u16 :: u17 :: v :: ur))) (w : Wk l g X K P E n k (pc + 3) L (v :: st) h) : Wk l g X K P E n k pc L (.ref a :: st) h := k_get f hd ha rfl w
theorem k_p18 {a ci idx : Nat} {v v0 : Value} {ty : FieldType} {u0 u1 u2 u3 u4 u5 u6 u7 u8 u9 u10 u11 u12 u13 u14 u15 u16 u17 : Value} {ur : List Value} (f : FPs K.own K.nm idx ci 18 ty) (hd : decode K.cc pc = .ok (.putfield idx, 3)) (ha : h a = some (oB ci (u0 :: u1 :: u2 :: u3 :: u4 :: u5 :: u6 :: u7 :: u8 :: u9 :: u10 :: u11 :: u12 :: u13 :: u14 :: u15 :: u16 :: u17 :: v0 :: ur))) (hn : narrow ty v = v) (hf : fits ty v = true) (w : Wk l g X K P E n k (pc + 3) L st (hu h a (oB ci (u0 :: u1 :: u2 :: u3 :: u4 :: u5 :: u6 :: u7 :: u8 :: u9 :: u10 :: u11 :: u12 :: u13 :: u14 :: u15 :: u16 :: u17 :: v :: ur)))) : Wk l g X K P E n k pc L (v :: .ref a :: st) h := k_put f hd ha (by simp only [List.length_cons]; omega) hn hf w
theorem k_q18 {a ci idx : Nat} {v v0 : Value} {ty : FieldType} {u0 u1 u2 u3 u4 u5 u6 u7 u8 u9 u10 u11 u12 u13 u14 u15 u16 u17 : Value} {ur : List Value} (f : FPs K.own K.nm idx ci 18 ty) (hd : decode K.cc pc = .ok (.putfield idx, 3)) (hn : narrow ty v = v) (hf : fits ty v = true) (w : Wk l g X K P E n k (pc + 3) L st (hu h a (oB ci (u0 :: u1 :: u2 :: u3 :: u4 :: u5 :: u6 :: u7 :: u8 :: u9 :: u10 :: u11 :: u12 :: u13 :: u14 :: u15 :: u16 :: u17 :: v :: ur)))) : Wk l g X K P E n k pc L (v :: .ref a :: st) (hu h a (oB ci (u0 :: u1 :: u2 :: u3 :: u4 :: u5 :: u6 :: u7 :: u8 :: u9 :: u10 :: u11 :: u12 :: u13 :: u14 :: u15 :: u16 :: u17 :: v0 :: ur))) := k_p18 f hd hu_s hn hf (Wk.heap hu_u.symm w)
theorem k_g19 {a ci idx : Nat} {v : Value} {u0 u1 u2 u3 u4 u5 u6 u7 u8 u9 u10 u11 u12 u13 u14 u15 u16 u17 u18 : Value} {ur : List Value} (f : FGs K.own idx ci 19) (hd : decode K.cc pc = .ok (.getfield idx, 3)) (ha : h a = some (oB ci (u0 :: u1 :: u2 :: u3 :: u4 :: u5 :: u6 :: u7 :: u8 :: u9 :: u10 :: u11 :: u12 :: u13 :: u14 :: u15 :: u16 :: u17 :: u18 :: v :: ur))) (w : Wk l g X K P E n k (pc + 3) L (v :: st) h) : Wk l g X K P E n k pc L (.ref a :: st) h := k_get f hd ha rfl w
theorem k_p19 {a ci idx : Nat} {v v0 : Value} {ty : FieldType} {u0 u1 u2 u3 u4 u5 u6 u7 u8 u9 u10 u11 u12 u13 u14 u15 u16 u17 u18 : Value} {ur : List Value} (f : FPs K.own K.nm idx ci 19 ty) (hd : decode K.cc pc = .ok (.putfield idx, 3)) (ha : h a = some (oB ci (u0 :: u1 :: u2 :: u3 :: u4 :: u5 :: u6 :: u7 :: u8 :: u9 :: u10 :: u11 :: u12 :: u13 :: u14 :: u15 :: u16 :: u17 :: u18 :: v0 :: ur))) (hn : narrow ty v = v) (hf : fits ty v = true) (w : Wk l g X K P E n k (pc + 3) L st (hu h a (oB ci (u0 :: u1 :: u2 :: u3 :: u4 :: u5 :: u6 :: u7 :: u8 :: u9 :: u10 :: u11 :: u12 :: u13 :: u14 :: u15 :: u16 :: u17 :: u18 :: v :: ur)))) : Wk l g X K P E n k pc L (v :: .ref a :: st) h := k_put f hd ha (by simp only [List.length_cons]; omega) hn hf w
theorem k_q19 {a ci idx : Nat} {v v0 : Value} {ty : FieldType} {u0 u1 u2 u3 u4 u5 u6 u7 u8 u9 u10 u11 u12 u13 u14 u15 u16 u17 u18 : Value} {ur : List Value} (f : FPs K.own K.nm idx ci 19 ty) (hd : decode K.cc pc = .ok (.putfield idx, 3)) (hn : narrow ty v = v) (hf : fits ty v = true) (w : Wk l g X K P E n k (pc + 3) L st (hu h a (oB ci (u0 :: u1 :: u2 :: u3 :: u4 :: u5 :: u6 :: u7 :: u8 :: u9 :: u10 :: u11 :: u12 :: u13 :: u14 :: u15 :: u16 :: u17 :: u18 :: v :: ur)))) : Wk l g X K P E n k pc L (v :: .ref a :: st) (hu h a (oB ci (u0 :: u1 :: u2 :: u3 :: u4 :: u5 :: u6 :: u7 :: u8 :: u9 :: u10 :: u11 :: u12 :: u13 :: u14 :: u15 :: u16 :: u17 :: u18 :: v0 :: ur))) := k_p19 f hd hu_s hn hf (Wk.heap hu_u.symm w)
theorem k_g20 {a ci idx : Nat} {v : Value} {u0 u1 u2 u3 u4 u5 u6 u7 u8 u9 u10 u11 u12 u13 u14 u15 u16 u17 u18 u19 : Value} {ur : List Value} (f : FGs K.own idx ci 20) (hd : decode K.cc pc = .ok (.getfield idx, 3)) (ha : h a = some (oB ci (u0 :: u1 :: u2 :: u3 :: u4 :: u5 :: u6 :: u7 :: u8 :: u9 :: u10 :: u11 :: u12 :: u13 :: u14 :: u15 :: u16 :: u17 :: u18 :: u19 :: v :: ur))) (w : Wk l g X K P E n k (pc + 3) L (v :: st) h) : Wk l g X K P E n k pc L (.ref a :: st) h := k_get f hd ha rfl w
theorem k_p20 {a ci idx : Nat} {v v0 : Value} {ty : FieldType} {u0 u1 u2 u3 u4 u5 u6 u7 u8 u9 u10 u11 u12 u13 u14 u15 u16 u17 u18 u19 : Value} {ur : List Value} (f : FPs K.own K.nm idx ci 20 ty) (hd : decode K.cc pc = .ok (.putfield idx, 3)) (ha : h a = some (oB ci (u0 :: u1 :: u2 :: u3 :: u4 :: u5 :: u6 :: u7 :: u8 :: u9 :: u10 :: u11 :: u12 :: u13 :: u14 :: u15 :: u16 :: u17 :: u18 :: u19 :: v0 :: ur))) (hn : narrow ty v = v) (hf : fits ty v = true) (w : Wk l g X K P E n k (pc + 3) L st (hu h a (oB ci (u0 :: u1 :: u2 :: u3 :: u4 :: u5 :: u6 :: u7 :: u8 :: u9 :: u10 :: u11 :: u12 :: u13 :: u14 :: u15 :: u16 :: u17 :: u18 :: u19 :: v :: ur)))) : Wk l g X K P E n k pc L (v :: .ref a :: st) h := k_put f hd ha (by simp only [List.length_cons]; omega) hn hf w
theorem k_q20 {a ci idx : Nat} {v v0 : Value} {ty : FieldType} {u0 u1 u2 u3 u4 u5 u6 u7 u8 u9 u10 u11 u12 u13 u14 u15 u16 u17 u18 u19 : Value} {ur : List Value} (f : FPs K.own K.nm idx ci 20 ty) (hd : decode K.cc pc = .ok (.putfield idx, 3)) (hn : narrow ty v = v) (hf : fits ty v = true) (w : Wk l g X K P E n k (pc + 3) L st (hu h a (oB ci (u0 :: u1 :: u2 :: u3 :: u4 :: u5 :: u6 :: u7 :: u8 :: u9 :: u10 :: u11 :: u12 :: u13 :: u14 :: u15 :: u16 :: u17 :: u18 :: u19 :: v :: ur)))) : Wk l g X K P E n k pc L (v :: .ref a :: st) (hu h a (oB ci (u0 :: u1 :: u2 :: u3 :: u4 :: u5 :: u6 :: u7 :: u8 :: u9 :: u10 :: u11 :: u12 :: u13 :: u14 :: u15 :: u16 :: u17 :: u18 :: u19 :: v0 :: ur))) := k_p20 f hd hu_s hn hf (Wk.heap hu_u.symm w)
theorem k_new {idx ci N n0 k0 : Nat} {fs0 : List Value} (f : NWs K.own idx ci fs0 N) (hd : decode K.cc pc = .ok (.new idx, 3)) (hn : 1 + n ≤ n0) (hk : N + k ≤ k0) (w : ∀ q, h q = none → Wk l g X K P E n k (pc + 3) L (.ref q :: st) (hu h q (oB ci fs0))) : Wk l g X K P E n0 k0 pc L st h := by
  intro C H locs ls cells slots h1 h2 hR hS hL
  obtain ⟨Cn, T, ty, hc, hcl, hins, hini, hin, hty, hfs⟩ := f
  have hKn := C.gk.1.1 ci _ hc
  refine W.newcK C.ex C.cb C.ow (C.ts _ hcl) (C.ts _ hins) (C.ts _ hini) rfl hd (by simp only; omega) (by simp only; omega) hKn.2.1 rfl fun H1 kC hkC e1 z1 o1 => ?_
  have hq : h H.size = none := by
    cases hz : h H.size with
    | none => rfl
    | some e => exact absurd (hR.lt hz) (Nat.lt_irrefl _)
  have hA : g.2.2.1 ≤ H.size := Nat.le_trans C.sz hS.1
  exact w H.size hq C H1 locs ls (cells + 1) (slots + N) (by omega) (by omega) (hR.set hA ⟨_, hc, (u_born ty C.ts hin hKn hkC e1 hty).to hfs⟩ (fun q _ hl => o1 q hl)) ⟨Nat.le_trans hS.1 (by omega), fun x hx1 hx2 => (o1 x (Nat.lt_of_lt_of_le hx1 hS.1)).trans (hS.2.1 x hx1 hx2), hS.2.2⟩ hL
theorem k_iald {a m j : Nat} {f : Nat → Int32} {i : Int32} (hd : decode K.cc pc = .ok (.iaload, 1)) (ha : h a = some (aI 0 m f)) (hi : ixI i j) (hj : j < m) (w : Wk l g X K P E n k (pc + 1) L (.int (f j) :: st) h) : Wk l g X K P E n k pc L (.int i :: .ref a :: st) h := by
  intro C H locs ls cells slots h1 h2 hR hS hL
  refine va_iald C.ex C.cb C.gk.1 (hR.P ha) 0 0 rfl rfl (ixI_in hi hj) hd ?_
  rw [hi.1]
  exact w C H locs ls cells slots h1 h2 hR hS hL
theorem k_bald {a m j : Nat} {f : Nat → Int32} {i : Int32} (hd : decode K.cc pc = .ok (.baload, 1)) (ha : h a = some (aI 1 m f)) (hi : ixI i j) (hj : j < m) (w : Wk l g X K P E n k (pc + 1) L (.int (f j) :: st) h) : Wk l g X K P E n k pc L (.int i :: .ref a :: st) h := by
  intro C H locs ls cells slots h1 h2 hR hS hL
  refine va_bald C.ex C.cb C.gk.1 (hR.P ha) 0 1 rfl rfl (ixI_in hi hj) hd ?_
  rw [hi.1]
  exact w C H locs ls cells slots h1 h2 hR hS hL
theorem k_cald {a m j : Nat} {f : Nat → Int32} {i : Int32} (hd : decode K.cc pc = .ok (.caload, 1)) (ha : h a = some (aI 2 m f)) (hi : ixI i j) (hj : j < m) (w : Wk l g X K P E n k (pc + 1) L (.int (f j) :: st) h) : Wk l g X K P E n k pc L (.int i :: .ref a :: st) h := by
  intro C H locs ls cells slots h1 h2 hR hS hL
  refine va_cald C.ex C.cb C.gk.1 (hR.P ha) 0 2 rfl rfl (ixI_in hi hj) hd ?_
  rw [hi.1]
  exact w C H locs ls cells slots h1 h2 hR hS hL
theorem k_lald {a m j : Nat} {f : Nat → Int64} {i : Int32} (hd : decode K.cc pc = .ok (.laload, 1)) (ha : h a = some (aL 3 m f)) (hi : ixI i j) (hj : j < m) (w : Wk l g X K P E n k (pc + 1) L (.long (f j) :: st) h) : Wk l g X K P E n k pc L (.int i :: .ref a :: st) h := by
  intro C H locs ls cells slots h1 h2 hR hS hL
  refine va_lald C.ex C.cb C.gk.1 (hR.P ha) 0 3 rfl rfl (ixI_in hi hj) hd ?_
  rw [hi.1]
  exact w C H locs ls cells slots h1 h2 hR hS hL
theorem k_dald {a m j : Nat} {f : Nat → UInt64} {i : Int32} (hd : decode K.cc pc = .ok (.daload, 1)) (ha : h a = some (aDb 4 m f)) (hi : ixI i j) (hj : j < m) (w : Wk l g X K P E n k (pc + 1) L (.double (f j) :: st) h) : Wk l g X K P E n k pc L (.int i :: .ref a :: st) h := by
  intro C H locs ls cells slots h1 h2 hR hS hL
  refine va_dald C.ex C.cb C.gk.1 (hR.P ha) 0 4 rfl rfl (ixI_in hi hj) hd ?_
  rw [hi.1]
  exact w C H locs ls cells slots h1 h2 hR hS hL
theorem k_aald {a m j t : Nat} {Cn : String} {f : Nat → Option Nat} {i : Int32} (hd : decode K.cc pc = .ok (.aaload, 1)) (ha : h a = some (aQ t m f)) (hi : ixI i j) (hj : j < m) (w : Wk l g X K P E n k (pc + 1) L (va_rf (f j) :: st) h) (ht : (tyT g)[t]? = some (g.2.1 t, .object Cn) := by rfl) : Wk l g X K P E n k pc L (.int i :: .ref a :: st) h := by
  intro C H locs ls cells slots h1 h2 hR hS hL
  refine va_aldq C.ex C.cb C.gk.1 (hR.P ha) 0 t rfl ht (ixI_in hi hj) hd ?_
  rw [hi.1]
  exact w C H locs ls cells slots h1 h2 hR hS hL
theorem k_alen {a t m : Nat} {x : vp_A} {v : Int32} {ty : FieldType} (hd : decode K.cc pc = .ok (.arraylength, 1)) (ha : h a = some (.inl (t, x))) (hv : Int32.ofNat x.1 = v) (w : Wk l g X K P E n k (pc + 1) L (.int v :: st) h) (ht : (tyT g)[t]? = some (g.2.1 t, ty) := by rfl) : Wk l g X K P E n k pc L (.ref a :: st) h := by
  intro C H locs ls cells slots h1 h2 hR hS hL
  exact va_alen C.ex C.cb C.gk.1 (hR.P ha) 0 t rfl ht hv hd (w C H locs ls cells slots h1 h2 hR hS hL)
theorem k_iast {a m j : Nat} {f : Nat → Int32} {i : Int32} {x : Int32} (hd : decode K.cc pc = .ok (.iastore, 1)) (ha : h a = some (aI 0 m f)) (hi : ixI i j) (hj : j < m) (w : Wk l g X K P E n k (pc + 1) L st (hu h a (aI 0 m (upd f j x)))) : Wk l g X K P E n k pc L (.int x :: .int i :: .ref a :: st) h := by
  intro C H locs ls cells slots h1 h2 hR hS hL
  obtain ⟨hA, hat⟩ := hR a _ ha
  have hin := ixI_in hi hj
  refine W.iast C.ex C.cb hat ((C.gk.1.2 0 _ rfl).1 m (fun j => .int (f j))) (fun q => by cases q) (by show ¬ (i < 0 ∨ (arrV _ _ _).slots.size ≤ _); rw [arrV_size]; exact hin) rfl rfl hd fun H1 e z oq => ?_
  refine w C H1 _ ls cells slots h1 h2 (hR.set hA ?_ (fun q hq _ => oq q hq)) (hS.put z oq hA) hL
  show H1[a]? = some (vp_cell _ _)
  rw [e]
  show some ((vp_cell _ _).setSlot _ _) = some (vp_cell _ _)
  rw [vp_cell_i, vp_cell_i, arrV_store]
  congr 2
  funext q
  rw [hi.1]
  by_cases hq : q = j
  · subst hq
    simp [updV, upd]
    try rfl
  · simp [updV, upd, hq]
theorem k_castore {a m j : Nat} {f : Nat → Int32} {i : Int32} {x : Int32} (hd : decode K.cc pc = .ok (.castore, 1)) (ha : h a = some (aI 2 m f)) (hi : ixI i j) (hj : j < m) (w : Wk l g X K P E n k (pc + 1) L st (hu h a (aI 2 m (upd f j (vp_nar .char x))))) : Wk l g X K P E n k pc L (.int x :: .int i :: .ref a :: st) h := by
  intro C H locs ls cells slots h1 h2 hR hS hL
  obtain ⟨hA, hat⟩ := hR a _ ha
  have hin := ixI_in hi hj
  refine W.cast C.ex C.cb hat ((C.gk.1.2 2 _ rfl).1 m (fun j => .int (f j))) (fun q => by cases q) (by show ¬ (i < 0 ∨ (arrV _ _ _).slots.size ≤ _); rw [arrV_size]; exact hin) rfl rfl hd fun H1 e z oq => ?_
  refine w C H1 _ ls cells slots h1 h2 (hR.set hA ?_ (fun q hq _ => oq q hq)) (hS.put z oq hA) hL
  show H1[a]? = some (vp_cell _ _)
  rw [e]
  show some ((vp_cell _ _).setSlot _ _) = some (vp_cell _ _)
  rw [vp_cell_i, vp_cell_i, arrV_store]
  congr 2
  funext q
  rw [hi.1]
  by_cases hq : q = j
  · subst hq
    simp [updV, upd, vp_nar]
    try rfl
  · simp [updV, upd, vp_nar, hq]
theorem k_bast {a m j : Nat} {f : Nat → Int32} {i : Int32} {x : Int32} (hd : decode K.cc pc = .ok (.bastore, 1)) (ha : h a = some (aI 1 m f)) (hi : ixI i j) (hj : j < m) (w : Wk l g X K P E n k (pc + 1) L st (hu h a (aI 1 m (upd f j (vp_nar .byte x))))) : Wk l g X K P E n k pc L (.int x :: .int i :: .ref a :: st) h := by
  intro C H locs ls cells slots h1 h2 hR hS hL
  obtain ⟨hA, hat⟩ := hR a _ ha
  have hin := ixI_in hi hj
  refine W.bast C.ex C.cb hat ((C.gk.1.2 1 _ rfl).1 m (fun j => .int (f j))) (fun q => by cases q) (by show ¬ (i < 0 ∨ (arrV _ _ _).slots.size ≤ _); rw [arrV_size]; exact hin) rfl rfl hd fun H1 e z oq => ?_
  refine w C H1 _ ls cells slots h1 h2 (hR.set hA ?_ (fun q hq _ => oq q hq)) (hS.put z oq hA) hL
  show H1[a]? = some (vp_cell _ _)
  rw [e]
  show some ((vp_cell _ _).setSlot _ _) = some (vp_cell _ _)
  rw [vp_cell_i, vp_cell_i, arrV_store]
  congr 2
  funext q
  rw [hi.1]
  by_cases hq : q = j
  · subst hq
    simp [updV, upd, vp_nar]
    try rfl
  · simp [updV, upd, vp_nar, hq]
theorem k_last {a m j : Nat} {f : Nat → Int64} {i : Int32} {x : Int64} (hd : decode K.cc pc = .ok (.lastore, 1)) (ha : h a = some (aL 3 m f)) (hi : ixI i j) (hj : j < m) (w : Wk l g X K P E n k (pc + 1) L st (hu h a (aL 3 m (vp_updL f j x)))) : Wk l g X K P E n k pc L (.long x :: .int i :: .ref a :: st) h := by
  intro C H locs ls cells slots h1 h2 hR hS hL
  obtain ⟨hA, hat⟩ := hR a _ ha
  have hin := ixI_in hi hj
  refine W.last C.ex C.cb hat ((C.gk.1.2 3 _ rfl).1 m (fun j => .long (f j))) (fun q => by cases q) (by show ¬ (i < 0 ∨ (arrV _ _ _).slots.size ≤ _); rw [arrV_size]; exact hin) rfl rfl hd fun H1 e z oq => ?_
  refine w C H1 _ ls cells slots h1 h2 (hR.set hA ?_ (fun q hq _ => oq q hq)) (hS.put z oq hA) hL
  show H1[a]? = some (vp_cell _ _)
  rw [e]
  show some ((vp_cell _ _).setSlot _ _) = some (vp_cell _ _)
  rw [vp_cell_l, vp_cell_l, arrV_store]
  congr 2
  funext q
  rw [hi.1]
  by_cases hq : q = j
  · subst hq
    simp [updV, vp_updL]
    try rfl
  · simp [updV, vp_updL, hq]
theorem k_dast {a m j : Nat} {f : Nat → UInt64} {i : Int32} {x : UInt64} (hd : decode K.cc pc = .ok (.dastore, 1)) (ha : h a = some (aDb 4 m f)) (hi : ixI i j) (hj : j < m) (w : Wk l g X K P E n k (pc + 1) L st (hu h a (aDb 4 m (vf_upd f j x)))) : Wk l g X K P E n k pc L (.double x :: .int i :: .ref a :: st) h := by
  intro C H locs ls cells slots h1 h2 hR hS hL
  obtain ⟨hA, hat⟩ := hR a _ ha
  have hin := ixI_in hi hj
  refine W.dast C.ex C.cb hat ((C.gk.1.2 4 _ rfl).1 m (fun j => .double (f j))) (fun q => by cases q) (by show ¬ (i < 0 ∨ (arrV _ _ _).slots.size ≤ _); rw [arrV_size]; exact hin) rfl rfl hd fun H1 e z oq => ?_
  refine w C H1 _ ls cells slots h1 h2 (hR.set hA ?_ (fun q hq _ => oq q hq)) (hS.put z oq hA) hL
  show H1[a]? = some (vp_cell _ _)
  rw [e]
  show some ((vp_cell _ _).setSlot _ _) = some (vp_cell _ _)
  rw [vp_cell_d, vp_cell_d, arrV_store]
  congr 2
  funext q
  rw [hi.1]
  by_cases hq : q = j
  · subst hq
    simp [updV, vf_upd]
    try rfl
  · simp [updV, vf_upd, hq]
/-- an object of class ci may lie in an array of E -/
def Asg (ci : Nat) (Cn : String) : Prop := ∃ (r : vw_C), clT[ci]? = some r ∧ (r.1 = Cn ∨ Cond.castable r.1 Cn ∈ lw_tbl)
theorem k_aast {a v m j t ci : Nat} {Cn : String} {fs : List Value} {f : Nat → Option Nat} {i : Int32} (hd : decode K.cc pc = .ok (.aastore, 1)) (ha : h a = some (aQ t m f)) (hv : h v = some (oB ci fs)) (hg : Asg ci Cn) (hi : ixI i j) (hj : j < m) (w : Wk l g X K P E n k (pc + 1) L st (hu h a (aQ t m (va_up f j (some v))))) (ht : (tyT g)[t]? = some (g.2.1 t, .object Cn) := by rfl) : Wk l g X K P E n k pc L (.ref v :: .int i :: .ref a :: st) h := by
  intro C H locs ls cells slots h1 h2 hR hS hL
  obtain ⟨hA, hat⟩ := hR a _ ha
  have hin := ixI_in hi hj
  have hlt : i.toNatClampNeg < m := by rw [hi.1]; exact hj
  obtain ⟨r, hr, hasg⟩ := hg
  have hK := C.gk.1
  obtain ⟨cellV, g1, g3, h3⟩ := va_recv hK (hR.P hv) hr (q0 := 0) rfl
  obtain ⟨kC, hkC, -⟩ := Vm.findClass_spec h3
  obtain ⟨kA, comp, k1, k2, k3, -⟩ := (hK.2 t _ ht).2
  obtain ⟨kE, hkE, -⟩ := Vm.findClass_spec k3
  have has : X.s.vm.assignable cellV.cls comp = true := by
    rcases hasg with e | e
    · subst e
      rw [show comp = cellV.cls from Option.some.inj (k3.symm.trans h3)]
      have hca := (hK.1 ci r hr).2
      rw [show cellV.cls = g.1.1 ci from Option.some.inj (h3.symm.trans hca.1)]
      exact va_assign hca
    · exact vb_asgC (C.gk.2.1 _ e rfl) comp _ k3 h3
  refine W.aast C.ex C.cb hat (fun q h => by cases h) (fun h => by cases h) k1 k2 rfl hkE ⟨hi.2, by show _ < (arrV _ _ _).slots.size; rw [arrV_size]; exact hlt⟩ g1 (fun q h => by rw [h] at g3; cases g3) hkC has rfl rfl hd fun H1 e z oq => ?_
  refine w C H1 _ ls cells slots h1 h2 (hR.set hA ?_ (fun q hq _ => oq q hq)) (hS.put z oq hA) hL
  show H1[a]? = some (vp_cell _ _)
  rw [e]
  show some ((vp_cell _ _).setSlot _ _) = some (vp_cell _ _)
  rw [vp_cell_q, vp_cell_q, arrV_store]
  congr 2
  funext q
  rw [hi.1]
  by_cases hq : q = j
  · subst hq
    simp [updV, va_up, va_rf]
  · simp [updV, va_up, hq]
theorem k_aastN {a m j t : Nat} {Cn : String} {f : Nat → Option Nat} {i : Int32} (hd : decode K.cc pc = .ok (.aastore, 1)) (ha : h a = some (aQ t m f)) (hi : ixI i j) (hj : j < m) (w : Wk l g X K P E n k (pc + 1) L st (hu h a (aQ t m (va_up f j none)))) (ht : (tyT g)[t]? = some (g.2.1 t, .object Cn) := by rfl) : Wk l g X K P E n k pc L (.null :: .int i :: .ref a :: st) h := by
  intro C H locs ls cells slots h1 h2 hR hS hL
  obtain ⟨hA, hat⟩ := hR a _ ha
  have hin := ixI_in hi hj
  refine va_WaastN (C := Cn) C.ex C.cb hat ((C.gk.1.2 t _ ht).1 m (fun j => va_rf (f j))) (fun h => by cases h) (by show ¬ (i < 0 ∨ (arrV _ _ _).slots.size ≤ _); rw [arrV_size]; exact hin) rfl rfl hd fun H1 e z oq => ?_
  refine w C H1 _ ls cells slots h1 h2 (hR.set hA ?_ (fun q hq _ => oq q hq)) (hS.put z oq hA) hL
  show H1[a]? = some (vp_cell _ _)
  rw [e]
  show some ((vp_cell _ _).setSlot _ _) = some (vp_cell _ _)
  rw [vp_cell_q, vp_cell_q, arrV_store]
  congr 2
  funext q
  rw [hi.1]
  by_cases hq : q = j
  · subst hq
    simp [updV, va_up, va_rf]
  · simp [updV, va_up, hq]
theorem tyT_cls {g : gT} {s : State} (hK : va_K g.1 clT (tyT g) s) {t : Nat} {ty : FieldType} {cA : ClassId} (ht : (tyT g)[t]? = some (g.2.1 t, ty)) (hc : s.vm.findClass ("[" ++ ty.toString) = some cA) : cA = g.2.1 t := by
  have h := (hK.2 t _ ht).2
  cases ty with
  | object Cn =>
    obtain ⟨_, _, -, -, -, h4⟩ := h
    exact Option.some.inj (hc.symm.trans h4)
  | _ => exact Option.some.inj (hc.symm.trans h)
theorem k_newa_int {m n0 k0 : Nat} {z : Int32} (hd : decode K.cc pc = .ok (.newarray .int, 2)) (hz : ixI z m) (hm : m ≤ 60000) (hn : 1 + n ≤ n0) (hk : m + k ≤ k0) (w : ∀ q, h q = none → Wk l g X K P E n k (pc + 2) L (.ref q :: st) (hu h q (aI 0 m (fun _ => (0 : Int32))))) : Wk l g X K P E n0 k0 pc L (.int z :: st) h := by
  intro C H locs ls cells slots h1 h2 hR hS hL
  refine va_newaK (atype := .int) C.ex C.cb (C.ts _ q197) rfl hd rfl hz.2 hz.1 (Nat.le_trans (Nat.mul_le_mul_right _ hm) (by decide)) (by simp only; omega) (by simp only; omega) rfl fun H1 cA e1 z1 o1 hAr hNm => ?_
  have hq : h H.size = none := by
    cases hz : h H.size with
    | none => rfl
    | some e => exact absurd (hR.lt hz) (Nat.lt_irrefl _)
  have hA : g.2.2.1 ≤ H.size := Nat.le_trans C.sz hS.1
  have hcA : cA = g.2.1 0 := tyT_cls C.gk.1 (t := 0) (ty := .int) rfl hNm
  subst hcA
  refine w H.size hq C H1 locs ls (cells + 1) (slots + m) (by omega) (by omega) (hR.set hA ?_ (fun q _ hl => o1 q hl)) ⟨Nat.le_trans hS.1 (by omega), fun x hx1 hx2 => (o1 x (Nat.lt_of_lt_of_le hx1 hS.1)).trans (hS.2.1 x hx1 hx2), hS.2.2⟩ hL
  show H1[H.size]? = some (vp_cell _ _)
  rw [vp_cell_i]
  exact e1
theorem k_newa_byte {m n0 k0 : Nat} {z : Int32} (hd : decode K.cc pc = .ok (.newarray .byte, 2)) (hz : ixI z m) (hm : m ≤ 60000) (hn : 1 + n ≤ n0) (hk : m + k ≤ k0) (w : ∀ q, h q = none → Wk l g X K P E n k (pc + 2) L (.ref q :: st) (hu h q (aI 1 m (fun _ => (0 : Int32))))) : Wk l g X K P E n0 k0 pc L (.int z :: st) h := by
  intro C H locs ls cells slots h1 h2 hR hS hL
  refine va_newaK (atype := .byte) C.ex C.cb (C.ts _ q390) rfl hd rfl hz.2 hz.1 (Nat.le_trans (Nat.mul_le_mul_right _ hm) (by decide)) (by simp only; omega) (by simp only; omega) rfl fun H1 cA e1 z1 o1 hAr hNm => ?_
  have hq : h H.size = none := by
    cases hz : h H.size with
    | none => rfl
    | some e => exact absurd (hR.lt hz) (Nat.lt_irrefl _)
  have hA : g.2.2.1 ≤ H.size := Nat.le_trans C.sz hS.1
  have hcA : cA = g.2.1 1 := tyT_cls C.gk.1 (t := 1) (ty := .byte) rfl hNm
  subst hcA
  refine w H.size hq C H1 locs ls (cells + 1) (slots + m) (by omega) (by omega) (hR.set hA ?_ (fun q _ hl => o1 q hl)) ⟨Nat.le_trans hS.1 (by omega), fun x hx1 hx2 => (o1 x (Nat.lt_of_lt_of_le hx1 hS.1)).trans (hS.2.1 x hx1 hx2), hS.2.2⟩ hL
  show H1[H.size]? = some (vp_cell _ _)
  rw [vp_cell_i]
  exact e1
theorem k_newa_char {m n0 k0 : Nat} {z : Int32} (hd : decode K.cc pc = .ok (.newarray .char, 2)) (hz : ixI z m) (hm : m ≤ 60000) (hn : 1 + n ≤ n0) (hk : m + k ≤ k0) (w : ∀ q, h q = none → Wk l g X K P E n k (pc + 2) L (.ref q :: st) (hu h q (aI 2 m (fun _ => (0 : Int32))))) : Wk l g X K P E n0 k0 pc L (.int z :: st) h := by
  intro C H locs ls cells slots h1 h2 hR hS hL
  refine va_newaK (atype := .char) C.ex C.cb (C.ts _ q417) rfl hd rfl hz.2 hz.1 (Nat.le_trans (Nat.mul_le_mul_right _ hm) (by decide)) (by simp only; omega) (by simp only; omega) rfl fun H1 cA e1 z1 o1 hAr hNm => ?_
  have hq : h H.size = none := by
    cases hz : h H.size with
    | none => rfl
    | some e => exact absurd (hR.lt hz) (Nat.lt_irrefl _)
  have hA : g.2.2.1 ≤ H.size := Nat.le_trans C.sz hS.1
  have hcA : cA = g.2.1 2 := tyT_cls C.gk.1 (t := 2) (ty := .char) rfl hNm
  subst hcA
  refine w H.size hq C H1 locs ls (cells + 1) (slots + m) (by omega) (by omega) (hR.set hA ?_ (fun q _ hl => o1 q hl)) ⟨Nat.le_trans hS.1 (by omega), fun x hx1 hx2 => (o1 x (Nat.lt_of_lt_of_le hx1 hS.1)).trans (hS.2.1 x hx1 hx2), hS.2.2⟩ hL
  show H1[H.size]? = some (vp_cell _ _)
  rw [vp_cell_i]
  exact e1
theorem k_newa_long {m n0 k0 : Nat} {z : Int32} (hd : decode K.cc pc = .ok (.newarray .long, 2)) (hz : ixI z m) (hm : m ≤ 60000) (hn : 1 + n ≤ n0) (hk : m + k ≤ k0) (w : ∀ q, h q = none → Wk l g X K P E n k (pc + 2) L (.ref q :: st) (hu h q (aL 3 m (fun _ => (0 : Int64))))) : Wk l g X K P E n0 k0 pc L (.int z :: st) h := by
  intro C H locs ls cells slots h1 h2 hR hS hL
  refine va_newaK (atype := .long) C.ex C.cb (C.ts _ q3505) rfl hd rfl hz.2 hz.1 (Nat.le_trans (Nat.mul_le_mul_right _ hm) (by decide)) (by simp only; omega) (by simp only; omega) rfl fun H1 cA e1 z1 o1 hAr hNm => ?_
  have hq : h H.size = none := by
    cases hz : h H.size with
    | none => rfl
    | some e => exact absurd (hR.lt hz) (Nat.lt_irrefl _)
  have hA : g.2.2.1 ≤ H.size := Nat.le_trans C.sz hS.1
  have hcA : cA = g.2.1 3 := tyT_cls C.gk.1 (t := 3) (ty := .long) rfl hNm
  subst hcA
  refine w H.size hq C H1 locs ls (cells + 1) (slots + m) (by omega) (by omega) (hR.set hA ?_ (fun q _ hl => o1 q hl)) ⟨Nat.le_trans hS.1 (by omega), fun x hx1 hx2 => (o1 x (Nat.lt_of_lt_of_le hx1 hS.1)).trans (hS.2.1 x hx1 hx2), hS.2.2⟩ hL
  show H1[H.size]? = some (vp_cell _ _)
  rw [vp_cell_l]
  exact e1
theorem k_newa_double {m n0 k0 : Nat} {z : Int32} (hd : decode K.cc pc = .ok (.newarray .double, 2)) (hz : ixI z m) (hm : m ≤ 60000) (hn : 1 + n ≤ n0) (hk : m + k ≤ k0) (w : ∀ q, h q = none → Wk l g X K P E n k (pc + 2) L (.ref q :: st) (hu h q (aDb 4 m (fun _ => (0 : UInt64))))) : Wk l g X K P E n0 k0 pc L (.int z :: st) h := by
  intro C H locs ls cells slots h1 h2 hR hS hL
  refine va_newaK (atype := .double) C.ex C.cb (C.ts _ q3506) rfl hd rfl hz.2 hz.1 (Nat.le_trans (Nat.mul_le_mul_right _ hm) (by decide)) (by simp only; omega) (by simp only; omega) rfl fun H1 cA e1 z1 o1 hAr hNm => ?_
  have hq : h H.size = none := by
    cases hz : h H.size with
    | none => rfl
    | some e => exact absurd (hR.lt hz) (Nat.lt_irrefl _)
  have hA : g.2.2.1 ≤ H.size := Nat.le_trans C.sz hS.1
  have hcA : cA = g.2.1 4 := tyT_cls C.gk.1 (t := 4) (ty := .double) rfl hNm
  subst hcA
  refine w H.size hq C H1 locs ls (cells + 1) (slots + m) (by omega) (by omega) (hR.set hA ?_ (fun q _ hl => o1 q hl)) ⟨Nat.le_trans hS.1 (by omega), fun x hx1 hx2 => (o1 x (Nat.lt_of_lt_of_le hx1 hS.1)).trans (hS.2.1 x hx1 hx2), hS.2.2⟩ hL
  show H1[H.size]? = some (vp_cell _ _)
  rw [vp_cell_d]
  exact e1
theorem k_newq {m n0 k0 t idx : Nat} {Cn : String} {z : Int32} (hl : Cond.classLink K.own idx Cn ∈ lw_all) (ho : Cond.arrayOver (.object Cn) ∈ lw_tbl) (hd : decode K.cc pc = .ok (.anewarray idx, 3)) (hz : ixI z m) (hm : m ≤ 60000) (hn : 1 + n ≤ n0) (hk : m + k ≤ k0) (w : ∀ q, h q = none → Wk l g X K P E n k (pc + 3) L (.ref q :: st) (hu h q (aQ t m (fun _ => none)))) (ht : (tyT g)[t]? = some (g.2.1 t, .object Cn) := by rfl) : Wk l g X K P E n0 k0 pc L (.int z :: st) h := by
  intro C H locs ls cells slots h1 h2 hR hS hL
  have hz1 := hz.1
  subst hz1
  refine W.anew C.ex C.cb C.ow (C.ts _ hl) (va_AO.use (C.gk.2.1 _ ho rfl)) rfl hd rfl hz.2 (by omega) (by simp only; omega) (by simp only; omega) fun cA kA comp f1 f2 f3 f4 => ?_
  generalize hH1 : H.push ({ cls := cA, slots := Array.replicate z.toNatClampNeg .null, vm := .none } : Cell) = H1
  have z1 : H1.size = H.size + 1 := by rw [← hH1, Array.size_push]
  have e1 : H1[H.size]? = some (arrV cA z.toNatClampNeg (fun _ => .null)) := by rw [← hH1, Array.getElem?_push_size, ← arrV_new]
  have o1 : ∀ q : Nat, q < H.size → H1[q]? = H[q]? := fun q hq => by rw [← hH1, Array.getElem?_push, if_neg (Nat.ne_of_lt hq)]
  have hq : h H.size = none := by
    cases hz : h H.size with
    | none => rfl
    | some e => exact absurd (hR.lt hz) (Nat.lt_irrefl _)
  have hA : g.2.2.1 ≤ H.size := Nat.le_trans C.sz hS.1
  have hcA : cA = g.2.1 t := tyT_cls C.gk.1 ht f1
  subst hcA
  refine w H.size hq C H1 locs ls (cells + 1) (slots + z.toNatClampNeg) (by omega) (by omega) (hR.set hA ?_ (fun q _ hl => o1 q hl)) ⟨Nat.le_trans hS.1 (by omega), fun x hx1 hx2 => (o1 x (Nat.lt_of_lt_of_le hx1 hS.1)).trans (hS.2.1 x hx1 hx2), hS.2.2⟩ hL
  show H1[H.size]? = some (vp_cell _ _)
  rw [vp_cell_q]
  exact e1
theorem k_gets {C0 n0 d0 : String} {v : Value} {idx : Nat} (hz : (C0, n0, d0, v) ∈ stT g) (hl : Cond.fieldLink K.own idx C0 n0 d0 ∈ lw_all) (hd : decode K.cc pc = .ok (.getstatic idx, 3)) (w : Wk l g X K P E n k (pc + 3) L (v :: st) h) : Wk l g X K P E n k pc L st h := by
  intro C H locs ls cells slots h1 h2 hR hS hL
  exact va_gets C.ex C.cb (C.gz.1 _ hz) hS C.ow (C.ts _ hl) (fun x hx => hx) hd (w C H locs ls cells slots h1 h2 hR hS hL)
theorem k_castN {idx : Nat} (hd : decode K.cc pc = .ok (.checkcast idx, 3)) (w : Wk l g X K P E n k (pc + 3) L (.null :: st) h) : Wk l g X K P E n k pc L (.null :: st) h := by
  intro C H locs ls cells slots h1 h2 hR hS hL
  exact lv_castN C.ex C.cb hd (w C H locs ls cells slots h1 h2 hR hS hL)
def CAs (own : String) (idx ci : Nat) : Prop := ∃ (r : vw_C) (nm : String), clT[ci]? = some r ∧ Cond.classLink own idx nm ∈ lw_all ∧ (r.1 = nm ∨ Cond.castable r.1 nm ∈ lw_tbl)
theorem k_cast {idx a ci : Nat} {fs : List Value} (f : CAs K.own idx ci) (hd : decode K.cc pc = .ok (.checkcast idx, 3)) (ha : h a = some (oB ci fs)) (w : Wk l g X K P E n k (pc + 3) L (.ref a :: st) h) : Wk l g X K P E n k pc L (.ref a :: st) h := by
  intro C H locs ls cells slots h1 h2 hR hS hL
  obtain ⟨r, nm, hr, hl, hc⟩ := f
  have hv := va_recv C.gk.1 (hR.P ha) hr (q0 := 0) rfl
  rcases hc with e | e
  · subst e
    exact va_castS C.ex C.cb C.ow (C.ts _ hl) (C.gk.1.1 ci r hr).2 hv hd (w C H locs ls cells slots h1 h2 hR hS hL)
  · exact va_castY C.ex C.cb C.ow (C.ts _ hl) (C.gk.2.1 _ e rfl) hv hd (w C H locs ls cells slots h1 h2 hR hS hL)
theorem k_inst {idx a ci : Nat} {fs : List Value} (f : CAs K.own idx ci) (hd : decode K.cc pc = .ok (.instanceof idx, 3)) (ha : h a = some (oB ci fs)) (w : Wk l g X K P E n k (pc + 3) L (.int 1 :: st) h) : Wk l g X K P E n k pc L (.ref a :: st) h := by
  intro C H locs ls cells slots h1 h2 hR hS hL
  obtain ⟨r, nm, hr, hl, hc⟩ := f
  have hv := va_recv C.gk.1 (hR.P ha) hr (q0 := 0) rfl
  rcases hc with e | e
  · subst e
    exact va_instS C.ex C.cb C.ow (C.ts _ hl) (C.gk.1.1 ci r hr).2 hv hd (w C H locs ls cells slots h1 h2 hR hS hL)
  · exact va_instY C.ex C.cb C.ow (C.ts _ hl) (C.gk.2.1 _ e rfl) hv hd (w C H locs ls cells slots h1 h2 hR hS hL)
theorem k_objInit {idx a : Nat} (hl : Cond.methodLink K.own idx Lib.objectInit ∈ lw_all) (hi : Cond.instanceMethod Lib.objectInit ∈ lw_all) (hc : Cond.code Lib.objectInit ⟨#[0xb1]⟩ 1 none ∈ lw_all) (hd : decode K.cc pc = .ok (.invokespecial idx, 3)) (hs : (st.map fun v => v.category).sum + 12 ≤ 200) (w : Wk l g X K P E n k (pc + 3) L st h) : Wk l g X K P E n k pc L (.ref a :: st) h := by
  intro C H locs ls cells slots h1 h2 hR hS hL
  exact W.objInit C.ex C.cb C.ow (C.ts _ hl) (C.ts _ hi) (C.ts _ hc) rfl (hL.1.trans C.ml.symm) rfl hd (by simp only; omega) (by simp only [JFrame.monitorRoom]; simp; omega) (w C H locs ls cells slots h1 h2 hR hS hL)
end ROWS2
