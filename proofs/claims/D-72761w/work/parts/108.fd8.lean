/-! FOUNDATION 8: arrays of references, copies, clones, class objects -/
section Rules8
variable {E : Ev} {M M' : Mt} {d b pc idx a a0 ci : Nat} {ls : List (Option Value)} {rest : List Value} {h : AH} {Q : Value → AH → Prop} {X : Nat → AH → Prop}
/-- new Object[i] -/
theorem V_anewO {i : Int} (hdg : decode M.2.1 pc = .ok (.anewarray idx, 3)) (q : Cond.classLink M.1.cls idx "java/lang/Object" ∈ lw_all) (h0 : 0 ≤ i) (h1 : i ≤ 100000) (hb : i.toNat + 1 ≤ b) (k : ∀ a : Nat, h a = none → V E M d (b - (i.toNat + 1)) (pc + 3) ls (.ref a :: rest) (hset h a (oR 3 i.toNat (fun _ => none))) Q X) : V E M d b pc ls (vI i :: rest) h Q X := by
  have h0' := h0
  have h1' := h1
  intro p l e R s m args below meth c H locs cells slots mc ms arr C hS hR hL h1 h2 h3 h4 h5 h6
  obtain ⟨ws, hP, hD, hb9⟩ := hR.new
  have e1 : (Int32.ofInt i).toNatClampNeg = i.toNat := vI_clamp h0' (by omega)
  refine va_newq C.1 C.2.1 C.2.2.2.1 (C.2.2.2.2.1 _ q) C.2.2.2.2.2.2.2.2.2.1.2.2.2.2.2.2.2.1 C.2.2.2.2.2.2.2.2.2.1.1 hP hD hS (fun _ h => h) (N' := i.toNat) (by rw [show (0 : Int32) = Int32.ofInt 0 from rfl, vI_lt ⟨by omega, by omega⟩ (by decide)]; omega) e1 (by omega) (by omega) (by omega) hdg (fun q cA H1 hK1 hP1 hD1 hS1 => ?_)
  have hcA : cA = E.2.1 3 := by
    have f1 := (hK1.2 (tysA E).length (cA, .object "java/lang/Object") (by simp)).2
    have f2 := (C.2.2.2.2.2.2.2.2.2.1.1.2 3 _ (tysA_at (E := E) (k := 3) (ty := .object "java/lang/Object") rfl)).2
    obtain ⟨k1, c1, z1, z2, z3, z4⟩ := f1
    obtain ⟨k2, c2, y1, y2, y3, y4⟩ := f2
    exact Option.some.inj (z4.symm.trans y4)
  subst hcA
  obtain ⟨hn, hR1⟩ := hb9 q (.inl (3, i.toNat, .inr (fun _ => none))) H1 locs (by show (3 : Nat) < 10; decide) hP1 hD1 hS1
  exact k q hn p l e R s m args below meth c H1 locs (cells + 1) (slots + i.toNat) mc ms arr C hS1 hR1 hL h1 h2 (by omega) (by omega) h5 h6
/-- a class object -/
theorem V_ldcM {nm : String} {mi : Nat} (hdg : decode M.2.1 pc = .ok (.ldc idx, 2)) (q : Cond.classLink M.1.cls idx nm ∈ lw_all) (hk : (nm, mi) ∈ kml E) (k : V E M d b (pc + 2) ls (.ref mi :: rest) h Q X) : V E M d b pc ls rest h Q X := by
  intro p l e R s m args below meth c H locs cells slots mc ms arr C hS hR hL h1 h2 h3 h4 h5 h6
  exact va_ldcM C.1 C.2.1 C.2.2.2.1 (C.2.2.2.2.1 _ q) (C.2.2.2.2.2.2.2.2.2.1.2.2.2.2.2.2.1.1 _ hk) hdg (k p l e R s m args below meth c H locs cells slots mc ms arr C hS hR hL h1 h2 h3 h4 h5 h6)
/-- o.getClass(), o an object -/
theorem V_getC {nm : String} {mi N : Nat} {T : u_T} (hdg : decode M.2.1 pc = .ok (.invokevirtual idx, 3)) (q : Cond.methodLink M.1.cls idx ⟨"java/lang/Object", "getClass", "()Ljava/lang/Class;"⟩ ∈ lw_all) (qs : Cond.selects nm ⟨"java/lang/Object", "getClass", "()Ljava/lang/Class;"⟩ ⟨"java/lang/Object", "getClass", "()Ljava/lang/Class;"⟩ ∈ lw_all) (hk : (nm, mi) ∈ kml E) (ha : clsE E h a ci) (hci : clA[ci]? = some (nm, T, N)) (hW : (rest.map fun v => v.category).sum ≤ 8) (hd : 1 ≤ d) (k : V E M d b (pc + 3) ls (.ref mi :: rest) h Q X) : V E M d b pc ls (.ref a :: rest) h Q X := by
  intro p l e R s m args below meth c H locs cells slots mc ms arr C hS hR hL h1 h2 h3 h4 h5 h6
  obtain ⟨fs, hP⟩ := clsE.P C.2.2.2.2.2.2.2.2.2.1 hR ha
  have KMs := C.2.2.2.2.2.2.2.2.2.1.2.2.2.2.2.2.1
  exact va_getC C.1 C.2.1 (by rw [C.2.2.1]; exact hL.1.symm) C.2.2.2.1 (C.2.2.2.2.1 _ q) KMs.2.1.use (C.2.2.2.2.1 _ qs) (C.2.2.2.2.1 _ q1425) (C.2.2.2.2.1 _ q1461) (KMs.1 _ hk) (va_recv C.2.2.2.2.2.2.2.2.2.1.1 hP hci (q0 := 0) (fs := fs) rfl) (by omega) (by omega) hdg (k p l e R s m args below meth c H locs cells slots mc ms arr C hS hR hL h1 h2 h3 h4 h5 h6)
/-- new Wave[i] -/
theorem V_anewW {i : Int} (hdg : decode M.2.1 pc = .ok (.anewarray idx, 3)) (q : Cond.classLink M.1.cls idx "SignalWaves$Wave" ∈ lw_all) (h0 : 0 ≤ i) (h1 : i ≤ 100000) (hb : i.toNat + 1 ≤ b) (k : ∀ a : Nat, h a = none → V E M d (b - (i.toNat + 1)) (pc + 3) ls (.ref a :: rest) (hset h a (oR 4 i.toNat (fun _ => none))) Q X) : V E M d b pc ls (vI i :: rest) h Q X := by
  have h0' := h0
  have h1' := h1
  intro p l e R s m args below meth c H locs cells slots mc ms arr C hS hR hL h1 h2 h3 h4 h5 h6
  obtain ⟨ws, hP, hD, hb9⟩ := hR.new
  have e1 : (Int32.ofInt i).toNatClampNeg = i.toNat := vI_clamp h0' (by omega)
  refine va_newq C.1 C.2.1 C.2.2.2.1 (C.2.2.2.2.1 _ q) C.2.2.2.2.2.2.2.2.2.1.2.2.2.2.2.2.2.2 C.2.2.2.2.2.2.2.2.2.1.1 hP hD hS (fun _ h => h) (N' := i.toNat) (by rw [show (0 : Int32) = Int32.ofInt 0 from rfl, vI_lt ⟨by omega, by omega⟩ (by decide)]; omega) e1 (by omega) (by omega) (by omega) hdg (fun q cA H1 hK1 hP1 hD1 hS1 => ?_)
  have hcA : cA = E.2.1 4 := by
    have f1 := (hK1.2 (tysA E).length (cA, .object "SignalWaves$Wave") (by simp)).2
    have f2 := (C.2.2.2.2.2.2.2.2.2.1.1.2 4 _ (tysA_at (E := E) (k := 4) (ty := .object "SignalWaves$Wave") rfl)).2
    obtain ⟨k1, c1, z1, z2, z3, z4⟩ := f1
    obtain ⟨k2, c2, y1, y2, y3, y4⟩ := f2
    exact Option.some.inj (z4.symm.trans y4)
  subst hcA
  obtain ⟨hn, hR1⟩ := hb9 q (.inl (4, i.toNat, .inr (fun _ => none))) H1 locs (by show (4 : Nat) < 10; decide) hP1 hD1 hS1
  exact k q hn p l e R s m args below meth c H1 locs (cells + 1) (slots + i.toNat) mc ms arr C hS1 hR1 hL h1 h2 (by omega) (by omega) h5 h6
/-- System.arraycopy of whole numbers, between arrays apart -/
def iCpy (f g : Int → Int) (sp dp n : Int) : Int → Int := fun j => if dp ≤ j ∧ j < dp + n then f (sp + (j - dp)) else g j
end Rules8
