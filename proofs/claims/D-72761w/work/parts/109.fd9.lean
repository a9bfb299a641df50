/-! FOUNDATION 9: System.arraycopy -/
/-- as Rel.put, and the place of another plain cell that may be written -/
theorem Rel.put2 {E : Ev} {hh : AH} {H : Heap} (R : Rel E hh H) {a a0 : Nat} {c c' c0 : Po} (ha : hh a = some (.inl c)) (ha0 : hh a0 = some (.inl c0)) (hw : wrP c) (hw0 : wrP c0) (hw' : wrP c') :
    ∃ (ws : va_W) (k k0 : Nat), ws[k]? = some (a, cvP E c) ∧ ws[k0]? = some (a0, cvP E c0) ∧ va_P E.1 clA ws H ∧ va_D (Bs E) ws ∧ ∀ (H1 : Heap) (locs : List Loc), va_P E.1 clA (ws.set k (a, cvP E c')) H1 → va_S (Bs E) E.2.2.1 H1 locs → Rel E (hset hh a (.inl c')) H1 := by
  obtain ⟨hG, h, own, h1, h2, h3⟩ := R
  have hB : ∀ {a : Nat} {c : Po}, hh a = some (.inl c) → wrP c → Bs E a := by
    intro a c ha hw
    rcases (h1 a c (h2 a c ha).1).2 with g | g
    · exact g.2
    · exact absurd hw g.1
  have hb := hB ha hw
  obtain ⟨k, hk⟩ := enL_at h1 (h2 a c ha).1 hb
  obtain ⟨k0, hk0⟩ := enL_at h1 (h2 a0 c0 ha0).1 (hB ha0 hw0)
  refine ⟨enL E h H.size, k, k0, hk, hk0, enL_P h1, enL_D, fun H1 locs hP hS => ⟨hS.FrG, pset h a c', own, h1.put hG (h2 a c ha).1 hb hk hw' hP hS, fun b d hd => ?_, fun b Φ hd => ?_⟩⟩
  · unfold hset at hd
    unfold pset
    by_cases hba : b = a
    · subst hba
      rw [if_pos rfl] at hd ⊢
      cases hd
      exact ⟨rfl, (h2 b c ha).2⟩
    · rw [if_neg hba] at hd ⊢
      exact h2 b d hd
  · unfold hset at hd
    by_cases hba : b = a
    · subst hba
      rw [if_pos rfl] at hd
      cases hd
    · rw [if_neg hba] at hd
      obtain ⟨⟨d, e1⟩, e2, e3⟩ := h3 b Φ hd
      refine ⟨⟨d, by unfold pset; rw [if_neg hba]; exact e1⟩, e2, ?_⟩
      have : own1 (pset h a c') own b = own1 h own b := by
        funext q
        unfold own1 pset
        by_cases hq : own q = b
        · rw [if_pos hq, if_pos hq, if_neg]
          rintro rfl
          exact hba (hq.symm.trans (h2 q c ha).2)
        · rw [if_neg hq, if_neg hq]
      rw [this]
      exact e3
section Rules9
variable {E : Ev} {M M' : Mt} {d b pc idx a a0 ci : Nat} {ls : List (Option Value)} {rest : List Value} {h : AH} {Q : Value → AH → Prop} {X : Nat → AH → Prop}
theorem cpy_i {f g : Int → Int} {sp dp n : Int} (h1 : 0 ≤ sp) (h2 : 0 ≤ dp) (h3 : 0 ≤ n) : va_cpy (fun j : Nat => Int32.ofInt (f j)) (fun j : Nat => Int32.ofInt (g j)) sp.toNat dp.toNat n.toNat = (fun j : Nat => Int32.ofInt (iCpy f g sp dp n j)) := by
  funext j
  unfold va_cpy iCpy
  by_cases c : dp ≤ (j : Int) ∧ (j : Int) < dp + n
  · rw [if_pos (by omega), if_pos c]
    show Int32.ofInt (f ((sp.toNat + (j - dp.toNat) : Nat) : Int)) = _
    rw [show ((sp.toNat + (j - dp.toNat) : Nat) : Int) = sp + ((j : Int) - dp) by omega]
  · rw [if_neg (by omega), if_neg c]
theorem V_copyI {n0 n1 : Nat} {f g : Int → Int} {sp dp n : Int} (hdg : decode M.2.1 pc = .ok (.invokestatic idx, 3)) (q : Cond.methodLink M.1.cls idx arraycopyName ∈ lw_all) (qi : Cond.initialized "java/lang/System" ∈ lw_all) (ha0 : h a0 = some (oA 0 n0 f)) (ha1 : h a = some (oA 0 n1 g)) (h1 : 0 ≤ sp) (h2 : 0 ≤ dp) (h3 : 0 ≤ n) (h4 : sp + n ≤ n0) (h5 : dp + n ≤ n1) (hn0 : (n0 : Int) ≤ 2147483647) (hn1 : (n1 : Int) ≤ 2147483647) (hW : (rest.map fun v => v.category).sum ≤ 8) (hd : 1 ≤ d) (k : V E M d b (pc + 3) ls rest (hset h a (oA 0 n1 (iCpy f g sp dp n))) Q X) : V E M d b pc ls (vI n :: vI dp :: .ref a :: vI sp :: .ref a0 :: rest) h Q X := by
  have g1 := h1
  have g2 := h2
  have g3 := h3
  have g4 := h4
  have g5 := h5
  intro p l e R s m args below meth c H locs cells slots mc ms arr C hS hR hL h1 h2 h3 h4 h5 h6
  obtain ⟨ws, k0, k1, e0, e1, hP, hD, hb⟩ := hR.put2 (c' := .inl (0, n1, .inl (iCpy f g sp dp n))) ha1 ha0 (by show (0 : Nat) < 10; decide) (by show (0 : Nat) < 10; decide) (by show (0 : Nat) < 10; decide)
  have z1 : (Int32.ofInt sp).toNatClampNeg = sp.toNat := vI_clamp g1 (by omega)
  have z2 : (Int32.ofInt dp).toNatClampNeg = dp.toNat := vI_clamp g2 (by omega)
  have z3 : (Int32.ofInt n).toNatClampNeg = n.toNat := vI_clamp g3 (by omega)
  have nn : ∀ {x : Int}, 0 ≤ x → x ≤ 2147483647 → ¬ Int32.ofInt x < 0 := fun hx hx2 => by
    rw [show (0 : Int32) = Int32.ofInt 0 from rfl, vI_lt ⟨by omega, by omega⟩ (by decide)]; omega
  refine va_copyi C.1 C.2.1 (by rw [C.2.2.1]; exact hL.1.symm) C.2.2.2.1 (C.2.2.2.2.1 _ q) (C.2.2.2.2.1 _ q1471) (C.2.2.2.2.1 _ q1470) (C.2.2.2.2.1 _ qi) C.2.2.2.2.2.2.2.2.2.1.1 hP hD hS k1 k0 0 0 (n0 := n0) (n1 := n1) (f := fun j : Nat => Int32.ofInt (f j)) (g := fun j : Nat => Int32.ofInt (g j)) e1 e0 (tysA_at (k := 0) rfl) (tysA_at (k := 0) rfl) rfl (nn g1 (by omega)) (nn g2 (by omega)) (nn g3 (by omega)) (by rw [z1, z3]; omega) (by rw [z2, z3]; omega) (fun i _ => rfl) (by omega) (by show _ ≤ R.locals; have : nativeFrameWords "java/lang/System" "arraycopy" 5 ≤ 60 := (by decide); omega) hdg (fun H1 locs1 hP1 _ hS1 => ?_)
  rw [z1, z2, z3, cpy_i g1 g2 g3] at hP1
  exact k p l e R s m args below meth c H1 locs1 cells slots mc ms arr C hS1 (hb H1 locs1 hP1 hS1) hL h1 h2 h3 h4 h5 h6
def oCpy (f g : Int → Option Nat) (sp dp n : Int) : Int → Option Nat := fun j => if dp ≤ j ∧ j < dp + n then f (sp + (j - dp)) else g j
theorem cpy_o {f g : Int → Option Nat} {sp dp n : Int} (h1 : 0 ≤ sp) (h2 : 0 ≤ dp) (h3 : 0 ≤ n) : va_cpy (fun j : Nat => f j) (fun j : Nat => g j) sp.toNat dp.toNat n.toNat = (fun j : Nat => oCpy f g sp dp n j) := by
  funext j
  unfold va_cpy oCpy
  by_cases c : dp ≤ (j : Int) ∧ (j : Int) < dp + n
  · rw [if_pos (by omega), if_pos c]
    show f ((sp.toNat + (j - dp.toNat) : Nat) : Int) = _
    rw [show ((sp.toNat + (j - dp.toNat) : Nat) : Int) = sp + ((j : Int) - dp) by omega]
  · rw [if_neg (by omega), if_neg c]
/-- of references, all of one class, between Object arrays -/
theorem V_copyR {n0 n1 N : Nat} {C0 : String} {T : u_T} {f g : Int → Option Nat} {sp dp n : Int} (hdg : decode M.2.1 pc = .ok (.invokestatic idx, 3)) (q : Cond.methodLink M.1.cls idx arraycopyName ∈ lw_all) (qi : Cond.initialized "java/lang/System" ∈ lw_all) (ha0 : h a0 = some (oR 3 n0 f)) (ha1 : h a = some (oR 3 n1 g)) (hci : clA[ci]? = some (C0, T, N)) (hca : Cond.castable C0 "java/lang/Object" ∈ lw_nt) (hel : ∀ i : Int, 0 ≤ i → i < n → ∀ y, f (sp + i) = some y → clsE E h y ci) (h1 : 0 ≤ sp) (h2 : 0 ≤ dp) (h3 : 0 ≤ n) (h4 : sp + n ≤ n0) (h5 : dp + n ≤ n1) (hn0 : (n0 : Int) ≤ 2147483647) (hn1 : (n1 : Int) ≤ 2147483647) (hW : (rest.map fun v => v.category).sum ≤ 8) (hd : 1 ≤ d) (k : V E M d b (pc + 3) ls rest (hset h a (oR 3 n1 (oCpy f g sp dp n))) Q X) : V E M d b pc ls (vI n :: vI dp :: .ref a :: vI sp :: .ref a0 :: rest) h Q X := by
  have g1 := h1
  have g2 := h2
  have g3 := h3
  have g4 := h4
  have g5 := h5
  intro p l e R s m args below meth c H locs cells slots mc ms arr C hS hR hL h1 h2 h3 h4 h5 h6
  obtain ⟨ws, k0, k1, e0, e1, hP, hD, hb⟩ := hR.put2 (c' := .inl (3, n1, .inr (oCpy f g sp dp n))) ha1 ha0 (by show (3 : Nat) < 10; decide) (by show (3 : Nat) < 10; decide) (by show (3 : Nat) < 10; decide)
  have z1 : (Int32.ofInt sp).toNatClampNeg = sp.toNat := vI_clamp g1 (by omega)
  have z2 : (Int32.ofInt dp).toNatClampNeg = dp.toNat := vI_clamp g2 (by omega)
  have z3 : (Int32.ofInt n).toNatClampNeg = n.toNat := vI_clamp g3 (by omega)
  have nn : ∀ {x : Int}, 0 ≤ x → x ≤ 2147483647 → ¬ Int32.ofInt x < 0 := fun hx hx2 => by
    rw [show (0 : Int32) = Int32.ofInt 0 from rfl, vI_lt ⟨by omega, by omega⟩ (by decide)]; omega
  refine va_copyq (E0 := "java/lang/Object") (E1 := "java/lang/Object") (C := C0) C.1 C.2.1 (by rw [C.2.2.1]; exact hL.1.symm) C.2.2.2.1 (C.2.2.2.2.1 _ q) (C.2.2.2.2.1 _ q1471) (C.2.2.2.2.1 _ q1470) (C.2.2.2.2.1 _ qi) C.2.2.2.2.2.2.2.2.2.1.1 hP hD hS k1 k0 3 3 (n0 := n0) (n1 := n1) (f := fun j : Nat => f j) (g := fun j : Nat => g j) e1 e0 (tysA_at (k := 3) rfl) (tysA_at (k := 3) rfl) (nn g1 (by omega)) (nn g2 (by omega)) (nn g3 (by omega)) (by rw [z1, z3]; omega) (by rw [z2, z3]; omega) (fun i hi y hy => ?_) (fun comp c0 y1 y2 => ?_) (by omega) (by show _ ≤ R.locals; have : nativeFrameWords "java/lang/System" "arraycopy" 5 ≤ 60 := (by decide); omega) hdg (fun H1 locs1 hP1 _ hS1 => ?_)
  · rw [z3] at hi
    rw [z1] at hy
    obtain ⟨fs, hPy⟩ := clsE.P C.2.2.2.2.2.2.2.2.2.1 hR (hel i (by omega) (by omega) y (by rw [show sp + (i : Int) = ((sp.toNat + i : Nat) : Int) by omega]; exact hy))
    exact va_recv C.2.2.2.2.2.2.2.2.2.1.1 hPy hci (q0 := 0) (fs := fs) rfl
  · obtain ⟨c1, t1, f1, f2, f3⟩ := Cond.castable_spec (va_Nw.use (A := args) rfl (C.2.2.2.2.2.2.2.2.2.1.2.1 _ hca rfl))
    cases y1.symm.trans f2
    cases y2.symm.trans f1
    exact f3
  · rw [z1, z2, z3, cpy_o g1 g2 g3] at hP1
    exact k p l e R s m args below meth c H1 locs1 cells slots mc ms arr C hS1 (hb H1 locs1 hP1 hS1) hL h1 h2 h3 h4 h5 h6
end Rules9
