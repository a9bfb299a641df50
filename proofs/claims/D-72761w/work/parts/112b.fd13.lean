/-! FOUNDATION 13: an array's class object; a copy of nothing; heaps inside composites -/
abbrev emp : AH := fun _ => none
abbrev dj (h : AH) (a : Nat) (hh : AH) : Prop := ∀ q, q ≠ a → hh q ≠ none → h q = none
theorem ovl_none {h hh : AH} {a x : Nat} {c : Ao} (e : ovl h a hh x = none) (ha : hh a = some c) : hh x = none ∧ h x = none ∧ x ≠ a := by
  have h1 : hh x = none := by
    cases hx : hh x with
    | none => rfl
    | some d => rw [ovl_in hx] at e; cases e
  have h2 : x ≠ a := by rintro rfl; rw [ha] at h1; cases h1
  exact ⟨h1, by rw [ovl_out h1 h2] at e; exact e, h2⟩
theorem dj.set {h hh : AH} {a x : Nat} {c : Ao} (D : dj h a hh) (hx : hh x ≠ none ∨ h x = none) : dj h a (hset hh x c) := by
  intro q n hq
  by_cases e : q = x
  · subst e
    rcases hx with hx | hx
    · exact D q n hx
    · exact hx
  · rw [hset_ne e] at hq
    exact D q n hq
theorem dj.inn {h hh : AH} {a x : Nat} {c : Ao} (D : dj h a hh) (e : h x = some c) (n : x ≠ a) : hh x = none := by
  cases hx : hh x with
  | none => rfl
  | some d =>
    have := D x n (by rw [hx]; simp)
    rw [e] at this
    cases this
theorem ovl_old {h hh : AH} {a x : Nat} {c : Ao} (D : dj h a hh) (n : x ≠ a) (e : h x = some c) : ovl h a hh x = some c := by
  rw [ovl_out (D.inn e n) n]
  exact e
theorem dj_emp {h : AH} {a : Nat} {c : Ao} : dj h a (hset emp a c) := fun q n hq => by rw [hset_ne n] at hq; exact absurd rfl hq
theorem hset_emp {h : AH} {a : Nat} {c : Ao} : hset h a c = ovl h a (hset emp a c) := by
  funext q
  unfold hset ovl
  by_cases e : q = a
  · simp [e]
  · simp [e]
theorem clsE_ovl {E : Ev} {h hh : AH} {a x ci : Nat} (D : dj h a hh) (n : x ≠ a) (e : clsE E h x ci) : clsE E (ovl h a hh) x ci := by
  rcases e with (⟨fs, e⟩ | ⟨Φ, e⟩) | e
  · exact Or.inl (Or.inl ⟨fs, ovl_old D n e⟩)
  · exact Or.inl (Or.inr ⟨Φ, ovl_old D n e⟩)
  · exact Or.inr e
theorem clsE.set {E : Ev} {h : AH} {a x ci : Nat} {c : Ao} (n : x ≠ a) (e : clsE E h x ci) : clsE E (hset h a c) x ci := by
  rcases e with e | e
  · exact Or.inl (e.set n)
  · exact Or.inr e
/-- a thing of a class is not of another one -/
theorem clsE.ne {E : Ev} {h : AH} {a x ci : Nat} {c : Ao} (hc : ∀ fs, ¬ cst E a (.inr (ci, fs))) (ea : h a = some c) (n : Nat.beq (ci + 2) (tagA c) = false) (e : clsE E h x ci) : x ≠ a := by
  rintro rfl
  rcases e with (⟨fs, e⟩ | ⟨Φ, e⟩) | ⟨fs, e⟩
  · exact ne_t e ea n rfl
  · exact ne_t e ea n rfl
  · exact hc fs e
section Rules13
variable {E : Ev} {M : Mt} {d b pc idx a a0 N : Nat} {T : u_T} {ls : List (Option Value)} {rest st : List Value} {h h' hh : AH} {Q : Value → AH → Prop} {X : Nat → AH → Prop}
theorem V_shut {t : Nat} {fs : List Value} {Ψ : AH → Prop} (ha : h a = some (oC t (fold Ψ))) (hΨ : Ψ hh) (hf : hh a = some (oO t fs)) (D : dj h a hh) (k : V E M d b pc ls st h Q X) : V E M d b pc ls st (ovl h a hh) Q X := by
  refine V_close Ψ hΨ hf D ?_
  rw [hset_same ha]
  exact k
theorem V_pack {t : Nat} {fs : List Value} {Ψ : AH → Prop} (hΨ : Ψ (hset emp a (oO t fs))) (k : V E M d b pc ls st (hset h a (oC t (fold Ψ))) Q X) : V E M d b pc ls st (hset h a (oO t fs)) Q X := by
  rw [hset_emp]
  exact V_close Ψ hΨ hset_eq dj_emp k
theorem V_getCA {n : Nat} {g : Int → Option Nat} (hdg : decode M.2.1 pc = .ok (.invokevirtual idx, 3)) (q : Cond.methodLink M.1.cls idx ⟨"java/lang/Object", "getClass", "()Ljava/lang/Class;"⟩ ∈ lw_all) (ha : h a = some (oR 3 n g)) (hW : (rest.map fun v => v.category).sum ≤ 8) (hd : 1 ≤ d) (k : V E M d b (pc + 3) ls (.ref (E.2.2.2 10) :: rest) h Q X) : V E M d b pc ls (.ref a :: rest) h Q X := by
  intro p l e R s m args below meth c H locs cells slots mc ms arr C hS hR hL h1 h2 h3 h4 h5 h6
  have hP : H[a]? = some (vp_cell (E.2.1 3) (n, .inr (.inr (.inr (.inr (fun j : Nat => g j)))))) := (hR.one ha) 0 _ rfl
  have KMs := C.2.2.2.2.2.2.2.2.2.1.2.2.2.2.2.2.1
  exact va_getC C.1 C.2.1 (by rw [C.2.2.1]; exact hL.1.symm) C.2.2.2.1 (C.2.2.2.2.1 _ q) KMs.2.1.use (C.2.2.2.2.1 _ q3144) (C.2.2.2.2.1 _ q1425) (C.2.2.2.2.1 _ q1461) (KMs.1 _ List.mem_cons_self) ⟨_, hP, rfl, va_nmO (C.2.2.2.2.2.2.2.2.2.1.1.2 3 _ (tysA_at (k := 3) rfl)).2 rfl⟩ (by omega) (by omega) hdg (k p l e R s m args below meth c H locs cells slots mc ms arr C hS hR hL h1 h2 h3 h4 h5 h6)
theorem V_getCK {n : Nat} {g : Int → Option Nat} (hdg : decode M.2.1 pc = .ok (.invokevirtual idx, 3)) (q : Cond.methodLink M.1.cls idx ⟨"java/lang/Object", "getClass", "()Ljava/lang/Class;"⟩ ∈ lw_all) (ha : cst E a (.inl (13, n, .inr g))) (hW : (rest.map fun v => v.category).sum ≤ 8) (hd : 1 ≤ d) (k : V E M d b (pc + 3) ls (.ref (E.2.2.2 10) :: rest) h Q X) : V E M d b pc ls (.ref a :: rest) h Q X := by
  intro p l e R s m args below meth c H locs cells slots mc ms arr C hS hR hL h1 h2 h3 h4 h5 h6
  have hP : H[a]? = some (vp_cell (E.2.1 13) (n, .inr (.inr (.inr (.inr (fun j : Nat => g j)))))) := (C.2.2.2.2.2.2.2.2.2.1.cst hR ha) 0 _ rfl
  have KMs := C.2.2.2.2.2.2.2.2.2.1.2.2.2.2.2.2.1
  exact va_getC C.1 C.2.1 (by rw [C.2.2.1]; exact hL.1.symm) C.2.2.2.1 (C.2.2.2.2.1 _ q) KMs.2.1.use (C.2.2.2.2.1 _ q3144) (C.2.2.2.2.1 _ q1425) (C.2.2.2.2.1 _ q1461) (KMs.1 _ List.mem_cons_self) ⟨_, hP, rfl, va_nmO (C.2.2.2.2.2.2.2.2.2.1.1.2 13 _ (tysA_at (k := 13) rfl)).2 rfl⟩ (by omega) (by omega) hdg (k p l e R s m args below meth c H locs cells slots mc ms arr C hS hR hL h1 h2 h3 h4 h5 h6)
/-- a copy of nothing out of a constant -/
theorem V_copyR0 {n0 n1 : Nat} {f g : Int → Option Nat} (hdg : decode M.2.1 pc = .ok (.invokestatic idx, 3)) (q : Cond.methodLink M.1.cls idx arraycopyName ∈ lw_all) (qi : Cond.initialized "java/lang/System" ∈ lw_all) (ha0 : cst E a0 (.inl (13, n0, .inr f))) (ha1 : h a = some (oR 3 n1 g)) (hW : (rest.map fun v => v.category).sum ≤ 8) (hd : 1 ≤ d) (k : V E M d b (pc + 3) ls rest h Q X) : V E M d b pc ls (vI 0 :: vI 0 :: .ref a :: vI 0 :: .ref a0 :: rest) h Q X := by
  intro p l e R s m args below meth c H locs cells slots mc ms arr C hS hR hL h1 h2 h3 h4 h5 h6
  have K := C.2.2.2.2.2.2.2.2.2.1
  have hc0 : H[a0]? = some (vp_cell (E.2.1 13) (n0, .inr (.inr (.inr (.inr (fun j : Nat => f j)))))) := (K.cst hR ha0) 0 _ rfl
  have hc1 : H[a]? = some (vp_cell (E.2.1 3) (n1, .inr (.inr (.inr (.inr (fun j : Nat => g j)))))) := (hR.one ha1) 0 _ rfl
  obtain ⟨-, k0, hk0, cm0, hkk0⟩ := (K.1.2 13 _ (tysA_at (k := 13) rfl)).1 n0 (fun j => va_rf (f j))
  obtain ⟨-, k1, hk1, cm1, hkk1⟩ := (K.1.2 3 _ (tysA_at (k := 3) rfl)).1 n1 (fun j => va_rf (g j))
  intro T hT X0
  obtain ⟨vm', X', step⟩ := X0.arraycopy C.1 C.2.2.2.1 (C.2.2.2.2.1 _ q) (C.2.2.2.2.1 _ q1471) (C.2.2.2.2.1 _ q1470) (C.2.2.2.2.1 _ qi) (src := a0) (dst := a) (cs := vp_cell (E.2.1 13) (n0, .inr (.inr (.inr (.inr (fun j : Nat => f j)))))) (cd := vp_cell (E.2.1 3) (n1, .inr (.inr (.inr (.inr (fun j : Nat => g j)))))) (srcPos := 0) (destPos := 0) (n := 0) (by rw [hT]; exact hc0) (by rw [hT]; exact hc1)
    (fun _ h => by cases h) (fun _ h => by cases h) (fun h => by cases h) (fun h => by cases h) hk0 hk1 hkk0 hkk1 rfl (by decide) (by decide) (by decide)
    (by show ¬ (0 : Int) + 0 > _; omega) (by show ¬ (0 : Int) + 0 > _; omega)
    (fun vm₁ hal i hi => absurd hi (Nat.not_lt_zero i))
    (g := F0 m pc arr (vI 0 :: vI 0 :: .ref a :: vI 0 :: .ref a0 :: rest)) rfl (by rw [C.2.2.1]; exact hL.1) (rest := rest) rfl (by rw [C.2.1]; exact hdg) (by omega) (by show 2 * 0 + _ + _ ≤ _; have hw : nativeFrameWords "java/lang/System" "arraycopy" 5 ≤ 20 := (by decide); omega)
  have e1 : copied (vp_cell (E.2.1 13) (n0, .inr (.inr (.inr (.inr (fun j : Nat => f j)))))) (vp_cell (E.2.1 3) (n1, .inr (.inr (.inr (.inr (fun j : Nat => g j)))))) 0 0 0 = vp_cell (E.2.1 3) (n1, .inr (.inr (.inr (.inr (fun j : Nat => g j))))) := by
    unfold copied
    have : (vp_cell (E.2.1 13) (n0, .inr (.inr (.inr (.inr (fun j : Nat => f j)))))).stretch (0 : Int32).toNatClampNeg (0 : Int32).toNatClampNeg = [] := rfl
    rw [this]
    rfl
  have e2 : (T.setVm vm').setCell a (vp_cell (E.2.1 3) (n1, .inr (.inr (.inr (.inr (fun j : Nat => g j)))))) = T.setVm vm' := State.setCell_held (by show T.heap[a]? = _; rw [hT]; exact hc1)
  rw [e1, e2] at X' step
  have e3 : (locs ++ ((vp_cell (E.2.1 13) (n0, .inr (.inr (.inr (.inr (fun j : Nat => f j)))))).stretch (0 : Int32).toNatClampNeg (0 : Int32).toNatClampNeg).zipIdx.map fun q => (⟨a, (0 : Int32).toNatClampNeg + q.2⟩ : Loc)) = locs := by
    have : (vp_cell (E.2.1 13) (n0, .inr (.inr (.inr (.inr (fun j : Nat => f j)))))).stretch (0 : Int32).toNatClampNeg (0 : Int32).toNatClampNeg = [] := rfl
    rw [this]
    simp
  rw [e3] at X'
  obtain ⟨t, a1, b1⟩ := k p l e R s m args below meth c H locs cells slots mc ms arr C hS hR hL h1 h2 h3 h4 h5 h6 (T.setVm vm') hT X'
  exact ⟨t, step t a1, b1⟩
end Rules13
