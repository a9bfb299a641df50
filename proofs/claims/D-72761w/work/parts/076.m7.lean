/-! THE REFERENCE'S METHODS, part 7: expressions -/
noncomputable def pCls : Nat → MG → MG
  | 0, g => g
  | k + 1, g => pIf (g 18 0 = 3 ∧ g 19 0 = 41 ∧ 0 < g 33 0) (pCls k (pNext (pWhole (gup g 33 0 (g 33 0 - 1))))) g
noncomputable def pEnd (g : MG) : MG := pIf (g 33 0 = 0 ∧ g 18 0 = 3 ∧ g 19 0 = 59) g (pFault g)
noncomputable def pExprN : Nat → MG → MG
  | 0, g => g
  | k + 1, g => pIf (pBegin g 20 0 = -9) (pIf (pBt (pCls 20 (pWhole (pBegin g)))) (pExprN k (pNext (pWaits (pCls 20 (pWhole (pBegin g))) (pCls 20 (pWhole (pBegin g)) 19 0)))) (pEnd (pCls 20 (pWhole (pBegin g))))) (pBegin g)
noncomputable def pExpr (g : MG) : MG := pExprN 8 (gup (gup (gup (gup g 33 0 0) 34 0 0) 35 0 0) 29 (g 24 0) 0)
theorem EI.close {g : MG} (h : EI 1 g) (hw : 0 < g 33 0) : EI 1 (gup g 33 0 (g 33 0 - 1)) := by
  obtain ⟨h1, h2, h3, h4, h5, h6, h7, h8⟩ := h
  refine ⟨h1.up (by omega) ⟨by omega, by omega⟩, ?_⟩
  simp only [gup_rd]
  simp
  omega
theorem EI.cls : ∀ (k : Nat) (g : MG), EI 1 g → EI 1 (pCls k g) := by
  intro k
  induction k with
  | zero => intro g h; exact h
  | succ k ih =>
    intro g h
    unfold pCls
    by_cases c1 : g 18 0 = 3 ∧ g 19 0 = 41 ∧ 0 < g 33 0
    · rw [pIf_t c1]; exact ih _ ((h.close c1.2.2).whole (by omega)).next
    · rw [pIf_f c1]; exact h
theorem pCls_ne {j : Nat} (h : (j < 16 ∨ 19 < j) ∧ j ≠ 28 ∧ j ≠ 29 ∧ j ≠ 33) : ∀ (k : Nat) (g : MG), pCls k g j = g j := by
  intro k
  induction k with
  | zero => intro g; rfl
  | succ k ih =>
    intro g
    unfold pCls
    by_cases c1 : g 18 0 = 3 ∧ g 19 0 = 41 ∧ 0 < g 33 0
    · rw [pIf_t c1, ih, pN_ne h.1, pWh_ne h.2, gup_ne h.2.2.2]
    · rw [pIf_f c1]
theorem pMk_ne {j : Nat} (h : (j < 16 ∨ 20 < j) ∧ j ≠ 32 ∧ j ≠ 33 ∧ j ≠ 35) : ∀ (k : Nat) (g : MG), pMarks k g j = g j := by
  intro k
  induction k with
  | zero => intro g; rfl
  | succ k ih =>
    intro g
    unfold pMarks
    by_cases c1 : g 18 0 = 3 ∧ (g 19 0 = 33 ∨ g 19 0 = 40)
    · rw [pIf_t c1]
      by_cases c2 : g 35 0 < 6
      · rw [pIf_t c2, ih, pN_ne (by omega), pW_ne ⟨h.2.1, h.2.2.1⟩, gup_ne h.2.2.2]
      · rw [pIf_f c2]; exact pF_ne (by omega)
    · rw [pIf_f c1]
theorem pTm_ne {j : Nat} (h : (j < 16 ∨ 20 < j) ∧ j ≠ 28 ∧ j ≠ 29 ∧ j ≠ 34) (g : MG) : pTerm g j = g j := by
  unfold pTerm
  by_cases c1 : ¬ ((g 18 0 = 2 ∨ g 18 0 = 1) ∧ g 34 0 < 6)
  · rw [pIf_t c1]; exact pF_ne (by omega)
  · rw [pIf_f c1]
    by_cases c2 : g 18 0 = 2
    · rw [pIf_t c2, pN_ne (by omega), pE_ne (by omega), gup_ne h.2.2.2]
    · rw [pIf_f c2]
      have e : (pPath (gup g 34 0 (g 34 0 + 1))).1 j = g j := (pP_ne (by omega) _ _ _).trans (gup_ne h.2.2.2)
      by_cases c3 : (pPath (gup g 34 0 (g 34 0 + 1))).1 20 0 = -9
      · rw [pIf_t c3, pE_ne (by omega)]; exact e
      · rw [pIf_f c3]; exact e
theorem pBg_ne {j : Nat} (h : (j < 16 ∨ 20 < j) ∧ j ≠ 28 ∧ j ≠ 29 ∧ j ≠ 32 ∧ j ≠ 33 ∧ j ≠ 34 ∧ j ≠ 35) (g : MG) : pBegin g j = g j := by
  unfold pBegin
  by_cases c : pMarks 7 g 20 0 = -9
  · rw [pIf_t c, pTm_ne (by omega), pMk_ne (by omega)]
  · rw [pIf_f c, pMk_ne (by omega)]
theorem pNots_le : ∀ (j : Nat) (g : MG), pNots j g 33 0 ≤ g 33 0 := by
  intro j
  induction j with
  | zero => intro g; exact Int.le_refl _
  | succ j ih =>
    intro g
    unfold pNots
    by_cases c1 : 0 < g 33 0 ∧ g 32 (g 33 0 - 1) = 33
    · rw [pIf_t c1]
      refine Int.le_trans (ih _) ?_
      rw [pE_ne (by omega)]
      simp [gup, aup]
      omega
    · rw [pIf_f c1]; exact Int.le_refl _
theorem pWh_le (j : Nat) (g : MG) : pWhole2 (pNots j g) 33 0 ≤ g 33 0 := by
  refine Int.le_trans ?_ (pNots_le j g)
  generalize pNots j g = g1
  unfold pWhole2
  by_cases c1 : 0 < g1 33 0 ∧ g1 32 (g1 33 0 - 1) ≠ 40
  · rw [pIf_t c1, pE_ne (by omega)]
    simp [gup, aup]
    omega
  · rw [pIf_f c1]; exact Int.le_refl _
/-- behind a term without fault, the counts -/
theorem EI.tm {g : MG} (h : EI 0 g) (hf : g 20 0 = -9) : PI (pTerm g) ∧ (pTerm g 20 0 = -9 → EI 1 (pTerm g) ∧ pTerm g 34 0 = g 34 0 + 1) := by
  have h1 := h.1
  have h17 := h1.2.2.2.2.1
  unfold pTerm
  by_cases c1 : ¬ ((g 18 0 = 2 ∨ g 18 0 = 1) ∧ g 34 0 < 6)
  · rw [pIf_t c1]
    exact ⟨h1.fault, fun e => by simp [pFault, gup, aup] at e; omega⟩
  · rw [pIf_f c1]
    have ht : g 34 0 < 6 := (Classical.not_not.mp c1).2
    by_cases c2 : g 18 0 = 2
    · rw [pIf_t c2]
      have := (h.term ht (w := 0) (x := g 19 0) (by decide) (h1.1 _ _)).next
      refine ⟨this.1, fun _ => ⟨this, ?_⟩⟩
      rw [pN_ne (by omega), pE_ne (by omega)]
      simp [gup, aup]
    · rw [pIf_f c2]
      have h5 := h.2.2.2.2.1
      have hIg : PI (gup g 34 0 (g 34 0 + 1)) := h1.up (by omega) ⟨by omega, by omega⟩
      have hPI : PI (pPath (gup g 34 0 (g 34 0 + 1))).1 := PI.path _ _ _ hIg
      have hin := path_in 161 (gup g 34 0 (g 34 0 + 1)) (-9) hIg
      change (pPath (gup g 34 0 (g 34 0 + 1))).2 = 0 ∨ (0 ≤ (pPath (gup g 34 0 (g 34 0 + 1))).2 ∧ (pPath (gup g 34 0 (g 34 0 + 1))).2 < g 22 0) at hin
      have e24 : (pPath (gup g 34 0 (g 34 0 + 1))).1 24 = g 24 := pP_ne (by omega) _ _ _
      have e29 : (pPath (gup g 34 0 (g 34 0 + 1))).1 29 = g 29 := pP_ne (by omega) _ _ _
      have e33 : (pPath (gup g 34 0 (g 34 0 + 1))).1 33 = g 33 := pP_ne (by omega) _ _ _
      have e35 : (pPath (gup g 34 0 (g 34 0 + 1))).1 35 = g 35 := pP_ne (by omega) _ _ _
      have e34 : (pPath (gup g 34 0 (g 34 0 + 1))).1 34 0 = g 34 0 + 1 := by
        rw [show (pPath (gup g 34 0 (g 34 0 + 1))).1 34 = _ from pP_ne (by omega) _ _ _]
        simp [gup, aup]
      generalize pPath (gup g 34 0 (g 34 0 + 1)) = p at *
      by_cases c3 : p.1 20 0 = -9
      · rw [pIf_t c3]
        obtain ⟨_, a2, a3, a4, a5, a6, a7, a8⟩ := h
        have a22 := h1.2.2.1
        have hp2 : inr p.2 := by constructor <;> omega
        have hE : PI (pEmit p.1 1 p.2) := hPI.emit (by decide) hp2 (by rw [e24, e29]; constructor <;> omega)
        have f24 : pEmit p.1 1 p.2 24 0 = g 24 0 := by rw [pE_ne (by omega), e24]
        have f29 : pEmit p.1 1 p.2 29 (g 24 0) = g 29 (g 24 0) + 1 := by unfold pEmit; rw [e24, e29]; simp [gup_rd]
        refine ⟨hE, fun _ => ⟨⟨hE, ?_⟩, ?_⟩⟩
        · rw [f24, f29, pE_ne (k := 33) (by omega), pE_ne (k := 34) (by omega), pE_ne (k := 35) (by omega), e33, e34, e35]
          omega
        · rw [pE_ne (k := 34) (by omega), e34]
      · rw [pIf_f c3]
        exact ⟨hPI, fun e => absurd e c3⟩
theorem EI.begin {g : MG} (h : EI 0 g) : PI (pBegin g) ∧ (pBegin g 20 0 = -9 → EI 1 (pBegin g) ∧ pBegin g 34 0 = g 34 0 + 1) := by
  have hm := EI.marks 7 g h
  have e34 : pMarks 7 g 34 = g 34 := pMk_ne (by omega) 7 g
  unfold pBegin
  by_cases c : pMarks 7 g 20 0 = -9
  · rw [pIf_t c]
    have := hm.tm c
    rw [e34] at this
    exact this
  · rw [pIf_f c]
    exact ⟨hm.1, fun e => absurd e c⟩
section M7
variable {E : Ev} {am : Nat} {B : Nat → Nat} {h0 h : AH} {g : MG} {Q : Value → AH → Prop} {X : Nat → AH → Prop}
theorem c_expr136B (hB : MB am B) {v : Option Value} (hr_g : Rng g) (hf : g 20 0 ≠ -9) (K : Q .null (mkM am B h0 g)) : V E mX7_readsExpression 7 0 136 [some (.ref am), v] [] (mkM am B h0 g) Q X := by
  refine V_aload_n dX7_readsExpression_136 rfl ?_
  refine V_aload_n dX7_readsExpression_137 rfl ?_
  refine VM_getiE 33 (g 33 0) dX7_readsExpression_138 q2639 (by decide) rfl rfl ?_
  refine V_if_ne 157 dX7_readsExpression_141 (by decide) (by first | omega | exact hr_g _ _ | decide) (fun c_141 => ?_) (fun c_141 => ?_)
  · refine V_iconst dX7_readsExpression_157 ?_
    refine VM_v1 (M' := mX7_due) okX7_due rfl dX7_readsExpression_158 q2796 rfl rfl (Nat.le_of_ble_eq_true rfl) (d' := 1) (b1 := 0) (by decide) (by decide) (c_X7_dueB hB hr_g (by first | omega | exact hr_g _ _ | decide) (by first | omega | (simp [gup, aup]; omega)) ?_)
    exact V_vret dX7_readsExpression_161 rfl (by exact K)
  · refine V_aload_n dX7_readsExpression_144 rfl ?_
    refine V_bipush dX7_readsExpression_145 (by decide) ?_
    refine VM_c1 (M' := mX7_is) okX7_is rfl dX7_readsExpression_147 q2788 rfl rfl (Nat.le_of_ble_eq_true rfl) (d' := 1) (b1 := 0) (by decide) (by decide) (c_X7_is hB hr_g (by first | omega | exact hr_g _ _ | decide) (fun c_147 => ?_) (fun c_147 => ?_))
    · refine V_if_eq 157 dX7_readsExpression_150 (by decide) (by first | omega | exact hr_g _ _ | decide) (fun c_150 => absurd c_150 (by decide)) (fun c_150 => ?_)
      refine V_iconst dX7_readsExpression_153 ?_
      refine V_goto 158 dX7_readsExpression_154 (by decide) ?_
      refine VM_v1 (M' := mX7_due) okX7_due rfl dX7_readsExpression_158 q2796 rfl rfl (Nat.le_of_ble_eq_true rfl) (d' := 1) (b1 := 0) (by decide) (by decide) (c_X7_dueB hB hr_g (by first | omega | exact hr_g _ _ | decide) (by first | omega | (simp [gup, aup]; omega)) ?_)
      exact V_vret dX7_readsExpression_161 rfl (by exact K)
    · refine V_if_eq 157 dX7_readsExpression_150 (by decide) (by first | omega | exact hr_g _ _ | decide) (fun c_150 => ?_) (fun c_150 => absurd c_150 (by decide))
      refine V_iconst dX7_readsExpression_157 ?_
      refine VM_v1 (M' := mX7_due) okX7_due rfl dX7_readsExpression_158 q2796 rfl rfl (Nat.le_of_ble_eq_true rfl) (d' := 1) (b1 := 0) (by decide) (by decide) (c_X7_dueB hB hr_g (by first | omega | exact hr_g _ _ | decide) (by first | omega | (simp [gup, aup]; omega)) ?_)
      exact V_vret dX7_readsExpression_161 rfl (by exact K)
theorem c_expr27B (hB : MB am B) {v : Option Value} (hr_g : Rng g) (hf : g 20 0 ≠ -9) (K : Q .null (mkM am B h0 g)) : V E mX7_readsExpression 7 0 27 [some (.ref am), v] [] (mkM am B h0 g) Q X := by
  refine V_aload_n dX7_readsExpression_27 rfl ?_
  refine VM_getiE 20 (g 20 0) dX7_readsExpression_28 q2626 (by decide) rfl rfl ?_
  refine V_bipush dX7_readsExpression_31 (by decide) ?_
  refine V_icmp_ne 136 dX7_readsExpression_33 (by decide) (by first | omega | exact hr_g _ _ | decide) (by first | omega | exact hr_g _ _ | decide) (fun c_33 => ?_) (fun c_33 => by exfalso; omega)
  exact c_expr136B hB hr_g hf K
theorem c_expr57B (hB : MB am B) {v : Option Value} (hr_g : Rng g) (hf : g 20 0 ≠ -9) (K : Q .null (mkM am B h0 g)) : V E mX7_readsExpression 7 0 57 [some (.ref am), v] [] (mkM am B h0 g) Q X := by
  refine V_aload_n dX7_readsExpression_57 rfl ?_
  refine VM_getiE 20 (g 20 0) dX7_readsExpression_58 q2626 (by decide) rfl rfl ?_
  refine V_bipush dX7_readsExpression_61 (by decide) ?_
  refine V_icmp_ne 103 dX7_readsExpression_63 (by decide) (by first | omega | exact hr_g _ _ | decide) (by first | omega | exact hr_g _ _ | decide) (fun c_63 => ?_) (fun c_63 => by exfalso; omega)
  refine V_aload_n dX7_readsExpression_103 rfl ?_
  refine VM_c0 (M' := mX7_isBetween) okX7_isBetween rfl dX7_readsExpression_104 q2844 rfl rfl (Nat.le_of_ble_eq_true rfl) (d' := 2) (b1 := 0) (by decide) (by decide) (c_X7_isBetween hB hr_g (fun c_104 => ?_) (fun c_104 => ?_))
  · refine V_istore_n dX7_readsExpression_107 (by decide) ?_
    refine V_aload_n dX7_readsExpression_108 rfl ?_
    refine VM_getiE 20 (g 20 0) dX7_readsExpression_109 q2626 (by decide) rfl rfl ?_
    refine V_bipush dX7_readsExpression_112 (by decide) ?_
    refine V_icmp_ne 27 dX7_readsExpression_114 (by decide) (by first | omega | exact hr_g _ _ | decide) (by first | omega | exact hr_g _ _ | decide) (fun c_114 => ?_) (fun c_114 => by exfalso; omega)
    exact c_expr27B hB hr_g hf K
  · refine V_istore_n dX7_readsExpression_107 (by decide) ?_
    refine V_aload_n dX7_readsExpression_108 rfl ?_
    refine VM_getiE 20 (g 20 0) dX7_readsExpression_109 q2626 (by decide) rfl rfl ?_
    refine V_bipush dX7_readsExpression_112 (by decide) ?_
    refine V_icmp_ne 27 dX7_readsExpression_114 (by decide) (by first | omega | exact hr_g _ _ | decide) (by first | omega | exact hr_g _ _ | decide) (fun c_114 => ?_) (fun c_114 => by exfalso; omega)
    exact c_expr27B hB hr_g hf K
theorem c_expr136 (hB : MB am B) {v : Option Value} (hr_g : Rng g) (hf : g 20 0 = -9) (K : Q .null (mkM am B h0 (pEnd g))) : V E mX7_readsExpression 7 0 136 [some (.ref am), v] [] (mkM am B h0 g) Q X := by
  unfold pEnd at K
  by_cases c : g 33 0 = 0 ∧ g 18 0 = 3 ∧ g 19 0 = 59
  · rw [pIf_t c] at K
    refine V_aload_n dX7_readsExpression_136 rfl ?_
    refine V_aload_n dX7_readsExpression_137 rfl ?_
    refine VM_getiE 33 (g 33 0) dX7_readsExpression_138 q2639 (by decide) rfl rfl ?_
    refine V_if_ne 157 dX7_readsExpression_141 (by decide) (by first | omega | exact hr_g _ _ | decide) (fun c_141 => by exfalso; omega) (fun c_141 => ?_)
    refine V_aload_n dX7_readsExpression_144 rfl ?_
    refine V_bipush dX7_readsExpression_145 (by decide) ?_
    refine VM_c1 (M' := mX7_is) okX7_is rfl dX7_readsExpression_147 q2788 rfl rfl (Nat.le_of_ble_eq_true rfl) (d' := 1) (b1 := 0) (by decide) (by decide) (c_X7_is hB hr_g (by first | omega | exact hr_g _ _ | decide) (fun _ => ?_) (fun c9 => absurd c.2 c9))
    refine V_if_eq 157 dX7_readsExpression_150 (by decide) (by first | omega | exact hr_g _ _ | decide) (fun c_150 => absurd c_150 (by decide)) (fun c_150 => ?_)
    refine V_iconst dX7_readsExpression_153 ?_
    refine V_goto 158 dX7_readsExpression_154 (by decide) ?_
    refine VM_v1 (M' := mX7_due) okX7_due rfl dX7_readsExpression_158 q2796 rfl rfl (Nat.le_of_ble_eq_true rfl) (d' := 1) (b1 := 0) (by decide) (by decide) (c_X7_due1 hB hr_g ?_)
    exact V_vret dX7_readsExpression_161 rfl (by exact K)
  · rw [pIf_f c] at K
    refine V_aload_n dX7_readsExpression_136 rfl ?_
    refine V_aload_n dX7_readsExpression_137 rfl ?_
    refine VM_getiE 33 (g 33 0) dX7_readsExpression_138 q2639 (by decide) rfl rfl ?_
    refine V_if_ne 157 dX7_readsExpression_141 (by decide) (by first | omega | exact hr_g _ _ | decide) (fun c_141 => ?_) (fun c_141 => ?_)
    · refine V_iconst dX7_readsExpression_157 ?_
      refine VM_v1 (M' := mX7_due) okX7_due rfl dX7_readsExpression_158 q2796 rfl rfl (Nat.le_of_ble_eq_true rfl) (d' := 1) (b1 := 0) (by decide) (by decide) (c_X7_due0 hB hr_g (by first | omega | (simp [gup, aup]; omega)) ?_)
      exact V_vret dX7_readsExpression_161 rfl (by exact K)
    · refine V_aload_n dX7_readsExpression_144 rfl ?_
      refine V_bipush dX7_readsExpression_145 (by decide) ?_
      refine VM_c1 (M' := mX7_is) okX7_is rfl dX7_readsExpression_147 q2788 rfl rfl (Nat.le_of_ble_eq_true rfl) (d' := 1) (b1 := 0) (by decide) (by decide) (c_X7_is hB hr_g (by first | omega | exact hr_g _ _ | decide) (fun c_147 => ?_) (fun c_147 => ?_))
      · refine V_if_eq 157 dX7_readsExpression_150 (by decide) (by first | omega | exact hr_g _ _ | decide) (fun c_150 => absurd c_150 (by decide)) (fun c_150 => ?_)
        exact absurd ⟨by omega, by omega, by omega⟩ c
        skip
      · refine V_if_eq 157 dX7_readsExpression_150 (by decide) (by first | omega | exact hr_g _ _ | decide) (fun c_150 => ?_) (fun c_150 => absurd c_150 (by decide))
        refine V_iconst dX7_readsExpression_157 ?_
        refine VM_v1 (M' := mX7_due) okX7_due rfl dX7_readsExpression_158 q2796 rfl rfl (Nat.le_of_ble_eq_true rfl) (d' := 1) (b1 := 0) (by decide) (by decide) (c_X7_due0 hB hr_g (by first | omega | (simp [gup, aup]; omega)) ?_)
        exact V_vret dX7_readsExpression_161 rfl (by exact K)
/-- the brackets that close, then what is between -/
theorem c_expr57 (hB : MB am B) {v : Option Value} : ∀ (k : Nat) (g : MG), EI 1 g → g 20 0 = -9 → g 33 0 < k → V E mX7_readsExpression 7 0 103 [some (.ref am), v] [] (mkM am B h0 (pCls k g)) Q X → V E mX7_readsExpression 7 0 57 [some (.ref am), v] [] (mkM am B h0 g) Q X := by
  intro k
  induction k with
  | zero =>
    intro g hI hf hk
    have := hI.2.2.2.1
    omega
  | succ k ih =>
    intro g hI hf hk K
    have hI' := hI
    obtain ⟨⟨hr_g, p2, p3, p4, p5, p6⟩, h2, h3, h4, h5, h6, h7, h8⟩ := hI
    unfold pCls at K
    by_cases c1 : g 18 0 = 3 ∧ g 19 0 = 41 ∧ 0 < g 33 0
    · rw [pIf_t c1] at K
      have hc := hI'.close c1.2.2
      have hw := hc.whole (by omega)
      have hw2 := hw.1.2.1
      have l1 : pWhole (gup g 33 0 (g 33 0 - 1)) 33 0 ≤ g 33 0 - 1 := Int.le_trans (pWh_le 20 _) (by simp [gup, aup])
      refine V_aload_n dX7_readsExpression_57 rfl ?_
      refine VM_getiE 20 (g 20 0) dX7_readsExpression_58 q2626 (by decide) rfl rfl ?_
      refine V_bipush dX7_readsExpression_61 (by decide) ?_
      refine V_icmp_ne 103 dX7_readsExpression_63 (by decide) (by first | omega | exact hr_g _ _ | decide) (by first | omega | exact hr_g _ _ | decide) (fun c_63 => by exfalso; omega) (fun c_63 => ?_)
      refine V_aload_n dX7_readsExpression_66 rfl ?_
      refine V_bipush dX7_readsExpression_67 (by decide) ?_
      refine VM_c1 (M' := mX7_is) okX7_is rfl dX7_readsExpression_69 q2788 rfl rfl (Nat.le_of_ble_eq_true rfl) (d' := 1) (b1 := 0) (by decide) (by decide) (c_X7_is hB hr_g (by first | omega | exact hr_g _ _ | decide) (fun _ => ?_) (fun c9 => absurd ⟨c1.1, c1.2.1⟩ c9))
      refine V_if_eq 103 dX7_readsExpression_72 (by decide) (by first | omega | exact hr_g _ _ | decide) (fun c_72 => absurd c_72 (by decide)) (fun c_72 => ?_)
      refine V_aload_n dX7_readsExpression_75 rfl ?_
      refine VM_getiE 33 (g 33 0) dX7_readsExpression_76 q2639 (by decide) rfl rfl ?_
      refine V_if_le 103 dX7_readsExpression_79 (by decide) (by first | omega | exact hr_g _ _ | decide) (fun c_79 => by exfalso; omega) (fun c_79 => ?_)
      refine V_aload_n dX7_readsExpression_82 rfl ?_
      refine V_dup dX7_readsExpression_83 rfl ?_
      refine VM_getiE 33 (g 33 0) dX7_readsExpression_84 q2639 (by decide) rfl rfl ?_
      refine V_iconst dX7_readsExpression_87 ?_
      refine V_isub dX7_readsExpression_88 ?_
      refine VM_puti 33 dX7_readsExpression_89 q2639 (by decide) rfl rfl mfs33 mna33 ?_
      refine V_aload_n dX7_readsExpression_92 rfl ?_
      refine VM_v0 (M' := mX7_wholeTerm) okX7_wholeTerm rfl dX7_readsExpression_93 q2840 rfl rfl (Nat.le_of_ble_eq_true rfl) (d' := 2) (b1 := 0) (by decide) (by decide) (c_X7_wholeTerm hB hc (by omega) ?_)
      refine V_aload_n dX7_readsExpression_96 rfl ?_
      refine VM_v0 (M' := mX7_next) okX7_next rfl dX7_readsExpression_97 q2773 rfl rfl (Nat.le_of_ble_eq_true rfl) (d' := 3) (b1 := 0) (by decide) (by decide) (c_X7_next hB hw.1.1 hw2 ?_)
      refine V_goto 57 dX7_readsExpression_100 (by decide) ?_
      exact ih _ hw.next (by rw [pN_ne (by omega), pWh_ne (by omega), gup_ne (by omega)]; exact hf) (by rw [pN_ne (by omega)]; omega) K
    · rw [pIf_f c1] at K
      refine V_aload_n dX7_readsExpression_57 rfl ?_
      refine VM_getiE 20 (g 20 0) dX7_readsExpression_58 q2626 (by decide) rfl rfl ?_
      refine V_bipush dX7_readsExpression_61 (by decide) ?_
      refine V_icmp_ne 103 dX7_readsExpression_63 (by decide) (by first | omega | exact hr_g _ _ | decide) (by first | omega | exact hr_g _ _ | decide) (fun c_63 => by exfalso; omega) (fun c_63 => ?_)
      refine V_aload_n dX7_readsExpression_66 rfl ?_
      refine V_bipush dX7_readsExpression_67 (by decide) ?_
      refine VM_c1 (M' := mX7_is) okX7_is rfl dX7_readsExpression_69 q2788 rfl rfl (Nat.le_of_ble_eq_true rfl) (d' := 1) (b1 := 0) (by decide) (by decide) (c_X7_is hB hr_g (by first | omega | exact hr_g _ _ | decide) (fun c_69 => ?_) (fun c_69 => ?_))
      · refine V_if_eq 103 dX7_readsExpression_72 (by decide) (by first | omega | exact hr_g _ _ | decide) (fun c_72 => absurd c_72 (by decide)) (fun c_72 => ?_)
        refine V_aload_n dX7_readsExpression_75 rfl ?_
        refine VM_getiE 33 (g 33 0) dX7_readsExpression_76 q2639 (by decide) rfl rfl ?_
        refine V_if_le 103 dX7_readsExpression_79 (by decide) (by first | omega | exact hr_g _ _ | decide) (fun c_79 => ?_) (fun c_79 => ?_)
        · exact K
        · exact absurd ⟨by omega, by omega, by omega⟩ c1
          skip
      · refine V_if_eq 103 dX7_readsExpression_72 (by decide) (by first | omega | exact hr_g _ _ | decide) (fun c_72 => ?_) (fun c_72 => absurd c_72 (by decide))
        exact K
end M7
