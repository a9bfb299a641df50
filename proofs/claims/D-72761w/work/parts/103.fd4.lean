/-! FOUNDATION 4: casts, questions of a class, statics, Object's constructor; receivers that are composites -/
/-- a's class, be it a plain object or a composite's head -/
def clsOf (h : AH) (a ci : Nat) : Prop := (∃ fs, h a = some (oO ci fs)) ∨ ∃ Φ, h a = some (oC ci Φ)
theorem Rel.cls {E : Ev} {h : AH} {H : Heap} (R : Rel E h H) {a ci : Nat} (hc : clsOf h a ci) : ∃ fs, va_P E.1 clA [(a, .inr (ci, fs))] H := by
  rcases hc with ⟨fs, ha⟩ | ⟨Φ, ha⟩
  · exact ⟨fs, R.one (c := .inr (ci, fs)) ha⟩
  · obtain ⟨hG, p, own, h1, h2, h3⟩ := R
    obtain ⟨⟨fs, e⟩, -⟩ := h3 a _ ha
    refine ⟨fs, fun k q hk => ?_⟩
    have hz : k < 1 := (List.getElem?_eq_some_iff.mp hk).1
    rw [show k = 0 by omega] at hk
    cases hk
    exact (h1 a _ e).1
theorem clsOf.set {h : AH} {a b ci : Nat} {c : Ao} (hc : clsOf h a ci) (n : a ≠ b) : clsOf (hset h b c) a ci := by
  unfold clsOf
  rw [hset_ne n]
  exact hc
/-- a constant's cell, as the kit's list -/
theorem KE.cst {E : Ev} {s : State} {h : AH} {H : Heap} (K : KE E s) (R : Rel E h H) {a : Nat} {c : Po} (hc : cst E a c) : va_P E.1 clA [(a, cvP E c)] H := by
  intro k q hk
  have hz : k < 1 := (List.getElem?_eq_some_iff.mp hk).1
  rw [show k = 0 by omega] at hk
  cases hk
  have h0 := K.2.2.2.2.2.2.1.2.2.2.1 a c hc
  have hl : a < E.2.2.1.size := h0.lt
  exact h0.kept (R.1.2 a hl)
/-- a's class, or a constant's -/
def clsE (E : Ev) (h : AH) (a ci : Nat) : Prop := clsOf h a ci ∨ ∃ fs, cst E a (.inr (ci, fs))
theorem clsE.P {E : Ev} {s : State} {h : AH} {H : Heap} (K : KE E s) (R : Rel E h H) {a ci : Nat} (hc : clsE E h a ci) : ∃ fs, va_P E.1 clA [(a, .inr (ci, fs))] H := by
  rcases hc with hc | ⟨fs, hc⟩
  · exact R.cls hc
  · exact ⟨fs, K.cst R hc⟩
theorem clsE.o {E : Ev} {h : AH} {a ci : Nat} {fs : List Value} (e : h a = some (oO ci fs)) : clsE E h a ci := Or.inl (Or.inl ⟨fs, e⟩)
theorem clsE.c {E : Ev} {h : AH} {a ci : Nat} {Φ : PH → Prop} (e : h a = some (oC ci Φ)) : clsE E h a ci := Or.inl (Or.inr ⟨Φ, e⟩)
theorem cst.int {E : Ev} {z : Int} (h1 : -128 ≤ z) (h2 : z ≤ 127) : cst E (iA E z) (.inr (32, [vI z])) := Or.inl ⟨z, h1, h2, rfl, rfl⟩
theorem clsE.i {E : Ev} {h : AH} {z : Int} (h1 : -128 ≤ z) (h2 : z ≤ 127) : clsE E h (iA E z) 32 := Or.inr ⟨_, cst.int h1 h2⟩
section Rules4
variable {E : Ev} {M M' : Mt} {d d' b b1 pc idx a ci N : Nat} {T : u_T} {ls : List (Option Value)} {As st rest : List Value} {h : AH} {Q : Value → AH → Prop} {X : Nat → AH → Prop}
theorem V_castN (hdg : decode M.2.1 pc = .ok (.checkcast idx, 3)) (k : V E M d b (pc + 3) ls (.null :: rest) h Q X) : V E M d b pc ls (.null :: rest) h Q X := by
  intro p l e R s m args below meth c H locs cells slots mc ms arr C hS hR hL h1 h2 h3 h4 h5 h6
  exact lv_castN C.1 C.2.1 hdg (k p l e R s m args below meth c H locs cells slots mc ms arr C hS hR hL h1 h2 h3 h4 h5 h6)
theorem V_castE {nm : String} (hdg : decode M.2.1 pc = .ok (.checkcast idx, 3)) (q : Cond.classLink M.1.cls idx nm ∈ lw_all) (hci : clA[ci]? = some (nm, T, N)) (ha : clsE E h a ci) (k : V E M d b (pc + 3) ls (.ref a :: rest) h Q X) : V E M d b pc ls (.ref a :: rest) h Q X := by
  intro p l e R s m args below meth c H locs cells slots mc ms arr C hS hR hL h1 h2 h3 h4 h5 h6
  obtain ⟨fs, hP⟩ := clsE.P C.2.2.2.2.2.2.2.2.2.1 hR ha
  exact va_castE C.1 C.2.1 C.2.2.2.1 (C.2.2.2.2.1 _ q) (va_recv C.2.2.2.2.2.2.2.2.2.1.1 hP hci (q0 := 0) (fs := fs) rfl) hdg (k p l e R s m args below meth c H locs cells slots mc ms arr C hS hR hL h1 h2 h3 h4 h5 h6)
theorem V_castY {C0 nm : String} (hdg : decode M.2.1 pc = .ok (.checkcast idx, 3)) (q : Cond.classLink M.1.cls idx nm ∈ lw_all) (hci : clA[ci]? = some (C0, T, N)) (hca : Cond.castable C0 nm ∈ lw_nt) (ha : clsE E h a ci) (k : V E M d b (pc + 3) ls (.ref a :: rest) h Q X) : V E M d b pc ls (.ref a :: rest) h Q X := by
  intro p l e R s m args below meth c H locs cells slots mc ms arr C hS hR hL h1 h2 h3 h4 h5 h6
  obtain ⟨fs, hP⟩ := clsE.P C.2.2.2.2.2.2.2.2.2.1 hR ha
  exact va_castY C.1 C.2.1 C.2.2.2.1 (C.2.2.2.2.1 _ q) (C.2.2.2.2.2.2.2.2.2.1.2.1 _ hca rfl) (va_recv C.2.2.2.2.2.2.2.2.2.1.1 hP hci (q0 := 0) (fs := fs) rfl) hdg (k p l e R s m args below meth c H locs cells slots mc ms arr C hS hR hL h1 h2 h3 h4 h5 h6)
/-- an array's cast to its own type -/
theorem V_castA {nm : String} {kk n : Nat} {f : Int → Int} {ty : FieldType} (hdg : decode M.2.1 pc = .ok (.checkcast idx, 3)) (q : Cond.classLink M.1.cls idx nm ∈ lw_all) (ha : h a = some (oA kk n f)) (hnm : ∀ s : State, KE E s → s.vm.findClass nm = some (E.2.1 kk)) (k : V E M d b (pc + 3) ls (.ref a :: rest) h Q X) : V E M d b pc ls (.ref a :: rest) h Q X := by
  intro p l e R s m args below meth c H locs cells slots mc ms arr C hS hR hL h1 h2 h3 h4 h5 h6
  exact va_castA C.1 C.2.1 C.2.2.2.1 (C.2.2.2.2.1 _ q) (hR.one ha) 0 (cA := E.2.1 kk) (x := (n, .inl (fun j : Nat => Int32.ofInt (f j)))) rfl (hnm _ C.2.2.2.2.2.2.2.2.2.1) hdg (k p l e R s m args below meth c H locs cells slots mc ms arr C hS hR hL h1 h2 h3 h4 h5 h6)
theorem V_instN (hdg : decode M.2.1 pc = .ok (.instanceof idx, 3)) (k : V E M d b (pc + 3) ls (vI 0 :: rest) h Q X) : V E M d b pc ls (.null :: rest) h Q X := by
  intro p l e R s m args below meth c H locs cells slots mc ms arr C hS hR hL h1 h2 h3 h4 h5 h6
  exact lv_instN C.1 C.2.1 hdg (k p l e R s m args below meth c H locs cells slots mc ms arr C hS hR hL h1 h2 h3 h4 h5 h6)
theorem V_instY {C0 nm : String} (hdg : decode M.2.1 pc = .ok (.instanceof idx, 3)) (q : Cond.classLink M.1.cls idx nm ∈ lw_all) (hci : clA[ci]? = some (C0, T, N)) (hca : Cond.castable C0 nm ∈ lw_nt) (ha : clsE E h a ci) (k : V E M d b (pc + 3) ls (vI 1 :: rest) h Q X) : V E M d b pc ls (.ref a :: rest) h Q X := by
  intro p l e R s m args below meth c H locs cells slots mc ms arr C hS hR hL h1 h2 h3 h4 h5 h6
  obtain ⟨fs, hP⟩ := clsE.P C.2.2.2.2.2.2.2.2.2.1 hR ha
  exact va_instY C.1 C.2.1 C.2.2.2.1 (C.2.2.2.2.1 _ q) (C.2.2.2.2.2.2.2.2.2.1.2.1 _ hca rfl) (va_recv C.2.2.2.2.2.2.2.2.2.1.1 hP hci (q0 := 0) (fs := fs) rfl) hdg (k p l e R s m args below meth c H locs cells slots mc ms arr C hS hR hL h1 h2 h3 h4 h5 h6)
theorem V_instE {nm : String} (hdg : decode M.2.1 pc = .ok (.instanceof idx, 3)) (q : Cond.classLink M.1.cls idx nm ∈ lw_all) (hci : clA[ci]? = some (nm, T, N)) (ha : clsE E h a ci) (k : V E M d b (pc + 3) ls (vI 1 :: rest) h Q X) : V E M d b pc ls (.ref a :: rest) h Q X := by
  intro p l e R s m args below meth c H locs cells slots mc ms arr C hS hR hL h1 h2 h3 h4 h5 h6
  obtain ⟨fs, hP⟩ := clsE.P C.2.2.2.2.2.2.2.2.2.1 hR ha
  obtain ⟨cell, g1, g2, g3⟩ := va_recv C.2.2.2.2.2.2.2.2.2.1.1 hP hci (q0 := 0) (fs := fs) rfl
  intro T0 hT X0
  obtain ⟨vm', X', st⟩ := X0.instanceofYes C.1 C.2.2.2.1 (C.2.2.2.2.1 _ q) (by rw [hT]; exact g1) g2 g3 (va_asg _ _) (g := F0 m pc arr (.ref a :: rest)) rfl rfl (by rw [C.2.1]; exact hdg)
  obtain ⟨t, a1, b1⟩ := k p l e R s m args below meth c H locs cells slots mc ms arr C hS hR hL h1 h2 h3 h4 h5 h6 (T0.setVm vm') hT X'
  exact ⟨t, st t a1, b1⟩
theorem V_instNo {C0 nm : String} (hdg : decode M.2.1 pc = .ok (.instanceof idx, 3)) (q : Cond.classLink M.1.cls idx nm ∈ lw_all) (hci : clA[ci]? = some (C0, T, N)) (hca : Cond.not (.castable C0 nm) ∈ fl1) (ha : clsE E h a ci) (k : V E M d b (pc + 3) ls (vI 0 :: rest) h Q X) : V E M d b pc ls (.ref a :: rest) h Q X := by
  intro p l e R s m args below meth c H locs cells slots mc ms arr C hS hR hL h1 h2 h3 h4 h5 h6
  obtain ⟨fs, hP⟩ := clsE.P C.2.2.2.2.2.2.2.2.2.1 hR ha
  exact va_instNo C.1 C.2.1 C.2.2.2.1 (C.2.2.2.2.1 _ q) (C.2.2.2.2.2.2.2.2.2.1.2.2.2.2.1 _ _ hca) (va_recv C.2.2.2.2.2.2.2.2.2.1.1 hP hci (q0 := 0) (fs := fs) rfl) hdg (k p l e R s m args below meth c H locs cells slots mc ms arr C hS hR hL h1 h2 h3 h4 h5 h6)
theorem V_gets {C0 n d0 : String} {v : Value} (hdg : decode M.2.1 pc = .ok (.getstatic idx, 3)) (q : Cond.fieldLink M.1.cls idx C0 n d0 ∈ lw_all) (hk : (C0, n, d0, v) ∈ ksl E) (k : V E M d b (pc + 3) ls (v :: rest) h Q X) : V E M d b pc ls rest h Q X := by
  intro p l e R s m args below meth c H locs cells slots mc ms arr C hS hR hL h1 h2 h3 h4 h5 h6
  obtain ⟨cf, kf, fi, f, a, cell, g1, g2, g3, g4, g5, g6, g7, g8⟩ := C.2.2.2.2.2.2.2.2.2.1.2.2.2.2.2.1 _ hk
  exact W.gets C.1 C.2.1 C.2.2.2.1 (C.2.2.2.2.1 _ q) g1 g2 g3 g4 (by rw [hS.2.1 a (Array.getElem?_eq_some_iff.mp g5).1 g8]; exact g5) (fun e => by rw [e] at g6; cases g6) g7 rfl hdg (k p l e R s m args below meth c H locs cells slots mc ms arr C hS hR hL h1 h2 h3 h4 h5 h6)
/-- Object's constructor -/
theorem V_objI (hdg : decode M.2.1 pc = .ok (.invokespecial idx, 3)) (q : Cond.methodLink M.1.cls idx ⟨"java/lang/Object", "<init>", "()V"⟩ ∈ lw_all) (hW : (rest.map fun v => v.category).sum ≤ 8) (hd : 1 ≤ d) (k : V E M d b (pc + 3) ls rest h Q X) : V E M d b pc ls (.ref a :: rest) h Q X := by
  intro p l e R s m args below meth c H locs cells slots mc ms arr C hS hR hL h1 h2 h3 h4 h5 h6
  exact W.objInit C.1 C.2.1 C.2.2.2.1 (C.2.2.2.2.1 _ q) (C.2.2.2.2.1 _ q163) (C.2.2.2.2.1 _ q164) (g := F0 m pc arr (.ref a :: rest)) rfl (by rw [C.2.2.1]; exact hL.1) rfl hdg (by omega) (by show 2 * 0 + _ + 12 ≤ _; omega) (k p l e R s m args below meth c H locs cells slots mc ms arr C hS hR hL h1 h2 h3 h4 h5 h6)
/-- o.m(..), m the receiver's own class's; the receiver may be a composite -/
theorem V_invVc (ok : OkV M' As.length) (hdg : decode M.2.1 pc = .ok (.invokevirtual idx, 3)) (q1 : Cond.methodLink M.1.cls idx M'.1 ∈ lw_all) (hh : nocov M pc = true)
    (hst : st = As.reverse ++ .ref a :: rest) (ha : clsE E h a ci) (hci : clA[ci]? = some (M'.1.cls, T, N)) (hcat : As.all (fun v => v.category == 1) = true) (hW : (rest.map fun v => v.category).sum ≤ 8) (hdd : d' + 1 ≤ d) (hbb : b1 ≤ b)
    (k : V E M' d' b1 0 (entL M'.2.2.1 (.ref a :: As)) [] h (fun v h' => V E M d (b - b1) (pc + 3) ls (rv M' v ++ rest) h' Q X) X) : V E M d b pc ls st h Q X := by
  obtain ⟨q2, q3, q4, q5, hd, hpl, hh', hLL, hn⟩ := ok
  intro p l e R s m args below meth c H locs cells slots mc ms arr C hS hR hL h1 h2 h3 h4 h5 h6
  have hts := C.2.2.2.2.1
  have hM := V.met (l := l) C.2.2.2.2.2.2.2.2.2.2 hpl hh' (catB hcat) (by simpa using hn) k
  obtain ⟨fs, hP⟩ := clsE.P C.2.2.2.2.2.2.2.2.2.1 hR ha
  have hrc := va_recv C.2.2.2.2.2.2.2.2.2.1.1 hP hci (q0 := 0) (fs := fs) rfl
  exact V_fin hh C hS hL h1 h2 (b1 := b1) (b2 := b - b1) (by omega) (by omega) h5 h6 (vx_runV (As := As) (rest := rest) ⟨C.1, C.2.1, C.2.2.1, C.2.2.2.1, hts⟩ hM (cwV As.length hts (lw_V q1 q2 q3 q4 q5) rfl rfl rfl hd (V_hR hdd hLL h1 h2)) ⟨PcV.blind, hrc, fun U e1 hW => ⟨rfl, by rw [e1]; exact hR, C.2.2.2.2.2.2.2.2.2.1.moved hW⟩⟩ rfl rfl hL.1 hst (by show 2 * 0 + _ ≤ 8; simpa using hW) hdg ⟨by omega, by omega⟩) (fun v h' hq => hq)
end Rules4
