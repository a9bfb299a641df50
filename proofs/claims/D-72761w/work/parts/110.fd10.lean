/-! FOUNDATION 10: clones of arrays of whole numbers -/
theorem Rel.new2 {E : Ev} {hh : AH} {H : Heap} (R : Rel E hh H) {a0 : Nat} {c0 : Po} (ha0 : hh a0 = some (.inl c0)) (hw0 : wrP c0) :
    ∃ (ws : va_W) (k0 : Nat), ws[k0]? = some (a0, cvP E c0) ∧ va_P E.1 clA ws H ∧ va_D (Bs E) ws ∧ ∀ (a : Nat) (c' : Po) (H1 : Heap) (locs : List Loc), wrP c' → va_P E.1 clA (ws ++ [(a, cvP E c')]) H1 → va_D (Bs E) (ws ++ [(a, cvP E c')]) → va_S (Bs E) E.2.2.1 H1 locs → hh a = none ∧ Rel E (hset hh a (.inl c')) H1 := by
  obtain ⟨hG, h, own, h1, h2, h3⟩ := R
  obtain ⟨k0, hk0⟩ := enL_at h1 (h2 a0 c0 ha0).1 (by
    rcases (h1 a0 c0 (h2 a0 c0 ha0).1).2 with g | g
    · exact g.2
    · exact absurd hw0 g.1)
  refine ⟨enL E h H.size, k0, hk0, enL_P h1, enL_D, fun a c' H1 locs hw hP hD hS => ?_⟩
  obtain ⟨hn, h1'⟩ := h1.new hG hw hP hD hS
  have hna : hh a = none := by
    cases hc : hh a with
    | none => rfl
    | some d =>
      cases d with
      | inl d => rw [(h2 a d hc).1] at hn; cases hn
      | inr Φ => obtain ⟨⟨d, e⟩, -⟩ := h3 a Φ hc; rw [e] at hn; cases hn
  refine ⟨hna, hS.FrG, pset h a c', fun q => if q = a then a else own q, h1', fun b d hd => ?_, fun b Φ hd => ?_⟩
  · unfold hset at hd
    unfold pset
    by_cases hba : b = a
    · subst hba
      rw [if_pos rfl] at hd
      cases hd
      simp
    · rw [if_neg hba] at hd
      simp only [if_neg hba]
      exact h2 b d hd
  · unfold hset at hd
    by_cases hba : b = a
    · subst hba
      rw [if_pos rfl] at hd
      cases hd
    · rw [if_neg hba] at hd
      obtain ⟨⟨d, e1⟩, e2, e3⟩ := h3 b Φ hd
      refine ⟨⟨d, by unfold pset; rw [if_neg hba]; exact e1⟩, by simp only [if_neg hba]; exact e2, ?_⟩
      have : own1 (pset h a c') (fun q => if q = a then a else own q) b = own1 h own b := by
        funext q
        unfold own1 pset
        by_cases hq : q = a
        · subst hq
          have hne : ¬ q = b := fun e => hba e.symm
          simp [hn, hne]
        · simp only [if_neg hq]
      rw [this]
      exact e3
section Rules10
variable {E : Ev} {M M' : Mt} {d b pc idx a ci : Nat} {ls : List (Option Value)} {rest : List Value} {h : AH} {Q : Value → AH → Prop} {X : Nat → AH → Prop}
theorem V_cloneI {n : Nat} {f : Int → Int} (hdg : decode M.2.1 pc = .ok (.invokevirtual idx, 3)) (q : Cond.methodLink M.1.cls idx ⟨"[I", "clone", "()Ljava/lang/Object;"⟩ ∈ lw_all) (qc : Cond.castable "[I" "java/lang/Cloneable" ∈ lw_nt) (ha : h a = some (oA 0 n f)) (hW : (rest.map fun v => v.category).sum ≤ 8) (hd : 1 ≤ d) (hb : n + 1 ≤ b) (k : ∀ a' : Nat, h a' = none → V E M d (b - (n + 1)) (pc + 3) ls (.ref a' :: rest) (hset h a' (oA 0 n f)) Q X) : V E M d b pc ls (.ref a :: rest) h Q X := by
  intro p l e R s m args below meth c H locs cells slots mc ms arr C hS hR hL h1 h2 h3 h4 h5 h6
  obtain ⟨ws, k0, e0, hP, hD, hb9⟩ := hR.new2 ha (by show (0 : Nat) < 10; decide)
  refine va_clone (ad := "[I") C.1 C.2.1 (by rw [C.2.2.1]; exact hL.1.symm) C.2.2.2.1 (C.2.2.2.2.1 _ q) (C.2.2.2.2.1 _ q398) (C.2.2.2.2.1 _ q399) (C.2.2.2.2.1 _ q400) (C.2.2.2.2.1 _ q401) (C.2.2.2.2.2.2.2.2.2.1.2.1 _ qc rfl) C.2.2.2.2.2.2.2.2.2.1.1 hP hD hS (fun _ h => h) k0 0 (cA := E.2.1 0) (x := (n, .inl (fun j : Nat => Int32.ofInt (f j)))) (ty := .int) e0 (tysA_at (k := 0) rfl) ((C.2.2.2.2.2.2.2.2.2.1.1.2 0 _ (tysA_at (E := E) (k := 0) (ty := .int) rfl)).2) (fun i v hv => ?_) (by omega) (by omega) (by omega) (by show slots + n ≤ _; omega) hdg (fun a' H1 hK1 hP1 hD1 hS1 => ?_)
  · have hv2 : (arrV (E.2.1 0) n (fun j => Value.int (Int32.ofInt (f j)))).slots[i]? = some v := hv
    by_cases hi : i < n
    · rw [arrV_read _ _ hi] at hv2
      cases hv2
      rfl
    · rw [Array.getElem?_eq_none (by rw [arrV_size]; omega)] at hv2
      cases hv2
  · obtain ⟨hn, hR1⟩ := hb9 a' (.inl (0, n, .inl f)) H1 locs (by show (0 : Nat) < 10; decide) hP1 hD1 hS1
    exact k a' hn p l e R s m args below meth c H1 locs (cells + 1) (slots + n) mc ms arr C hS1 hR1 hL h1 h2 (by omega) (by omega) h5 h6
end Rules10
