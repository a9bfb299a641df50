/-! THE REFERENCE'S METHODS, part 6: terms, expressions -/
noncomputable def pMarks : Nat → MG → MG
  | 0, g => g
  | k + 1, g => pIf (g 18 0 = 3 ∧ (g 19 0 = 33 ∨ g 19 0 = 40)) (pIf (g 35 0 < 6) (pMarks k (pNext (pWaits (gup g 35 0 (g 35 0 + 1)) (g 19 0)))) (pFault g)) g
noncomputable def pTerm (g : MG) : MG := pIf (¬ ((g 18 0 = 2 ∨ g 18 0 = 1) ∧ g 34 0 < 6)) (pFault g)
  (pIf (g 18 0 = 2) (pNext (pEmit (gup g 34 0 (g 34 0 + 1)) 0 (g 19 0)))
    (pIf ((pPath (gup g 34 0 (g 34 0 + 1))).1 20 0 = -9) (pEmit (pPath (gup g 34 0 (g 34 0 + 1))).1 1 (pPath (gup g 34 0 (g 34 0 + 1))).2) (pPath (gup g 34 0 (g 34 0 + 1))).1))
noncomputable def pBegin (g : MG) : MG := pIf (pMarks 7 g 20 0 = -9) (pTerm (pMarks 7 g)) (pMarks 7 g)
theorem pF_ne {g : MG} {k : Nat} (h : k ≠ 20) : pFault g k = g k := gup_ne h
/-- a path changes the token and the fault alone -/
theorem pP_ne {j : Nat} (h : j < 16 ∨ 20 < j) : ∀ (k : Nat) (g : MG) (sc : Int), (pPathN k g sc).1 j = g j := by
  intro k
  induction k with
  | zero => intro g sc; rfl
  | succ k ih =>
    intro g sc
    unfold pPathN
    by_cases c1 : ¬ (g 18 0 = 1 ∧ (nNB g sc (g 19 0) ≠ -9 ∨ nSB g sc (g 19 0) ≠ -9))
    · rw [pIf_t c1]; exact pF_ne (by omega)
    · rw [pIf_f c1]
      by_cases c2 : nNB g sc (g 19 0) ≠ -9
      · rw [pIf_t c2]; exact pN_ne (by omega)
      · rw [pIf_f c2]
        by_cases c3 : ¬ (pNext g 18 0 = 3 ∧ pNext g 19 0 = 46)
        · rw [pIf_t c3]; exact (pF_ne (by omega)).trans (pN_ne (by omega))
        · rw [pIf_f c3, ih, pN_ne (by omega), pN_ne (by omega)]
theorem PI.path : ∀ (k : Nat) (g : MG) (sc : Int), PI g → PI (pPathN k g sc).1 := by
  intro k
  induction k with
  | zero => intro g sc h; exact h
  | succ k ih =>
    intro g sc h
    unfold pPathN
    by_cases c1 : ¬ (g 18 0 = 1 ∧ (nNB g sc (g 19 0) ≠ -9 ∨ nSB g sc (g 19 0) ≠ -9))
    · rw [pIf_t c1]; exact h.fault
    · rw [pIf_f c1]
      by_cases c2 : nNB g sc (g 19 0) ≠ -9
      · rw [pIf_t c2]; exact h.next
      · rw [pIf_f c2]
        by_cases c3 : ¬ (pNext g 18 0 = 3 ∧ pNext g 19 0 = 46)
        · rw [pIf_t c3]; exact h.next.fault
        · rw [pIf_f c3]; exact ih _ _ h.next.next
/-- the node found is one of those told; when there is none, a fault stands -/
theorem path_in : ∀ (k : Nat) (g : MG) (sc : Int), PI g → ((pPathN k g sc).2 = 0 ∨ (0 ≤ (pPathN k g sc).2 ∧ (pPathN k g sc).2 < g 22 0)) := by
  intro k
  induction k with
  | zero => intro g sc h; exact Or.inl rfl
  | succ k ih =>
    intro g sc h
    unfold pPathN
    by_cases c1 : ¬ (g 18 0 = 1 ∧ (nNB g sc (g 19 0) ≠ -9 ∨ nSB g sc (g 19 0) ≠ -9))
    · rw [pIf_t c1]; exact Or.inl rfl
    · rw [pIf_f c1]
      by_cases c2 : nNB g sc (g 19 0) ≠ -9
      · rw [pIf_t c2]
        rcases nNB_in h sc (g 19 0) with a | a
        · exact absurd a c2
        · exact Or.inr a
      · rw [pIf_f c2]
        by_cases c3 : ¬ (pNext g 18 0 = 3 ∧ pNext g 19 0 = 46)
        · rw [pIf_t c3]; exact Or.inl rfl
        · rw [pIf_f c3]
          have := ih (pNext (pNext g)) (nSB g sc (g 19 0)) h.next.next
          rw [pN_ne (g := pNext g) (by omega), pN_ne (by omega)] at this
          exact this
theorem EI.of {c c' : Int} {g g' : MG} (h : EI c g) (h1 : PI g') (e24 : g' 24 = g 24) (e29 : g' 29 = g 29) (e33 : g' 33 = g 33) (e34 : g' 34 = g 34) (e35 : g' 35 = g 35) (hc : c' ≤ c) : EI c' g' := by
  obtain ⟨_, h2, h3, h4, h5, h6, h7, h8⟩ := h
  refine ⟨h1, ?_⟩
  rw [e24, e29, e33, e34, e35]
  exact ⟨h2, h3, h4, h5, h6, by omega, by omega⟩
theorem EI.next {c : Int} {g : MG} (h : EI c g) : EI c (pNext g) := h.of h.1.next (pN_ne (by omega)) (pN_ne (by omega)) (pN_ne (by omega)) (pN_ne (by omega)) (pN_ne (by omega)) (Int.le_refl _)
theorem EI.fault {c : Int} {g : MG} (h : EI c g) : EI c (pFault g) := h.of h.1.fault (pF_ne (by omega)) (pF_ne (by omega)) (pF_ne (by omega)) (pF_ne (by omega)) (pF_ne (by omega)) (Int.le_refl _)
theorem EI.mark {g : MG} (h : EI 0 g) (hm : g 35 0 < 6) (hx : inr (g 19 0)) : EI 0 (pWaits (gup g 35 0 (g 35 0 + 1)) (g 19 0)) := by
  obtain ⟨h1, h2, h3, h4, h5, h6, h7, h8⟩ := h
  refine ⟨?_, ?_⟩
  · unfold pWaits
    exact ((h1.up (by omega) ⟨by omega, by omega⟩).up (by omega) hx).up (by omega) (by simp [gup_rd]; omega)
  · unfold pWaits
    simp only [gup_rd]
    simp
    omega
theorem EI.sign {g : MG} (h : EI 1 g) (hx : inr (g 19 0)) : EI 0 (pWaits g (g 19 0)) := by
  obtain ⟨h1, h2, h3, h4, h5, h6, h7, h8⟩ := h
  refine ⟨?_, ?_⟩
  · unfold pWaits
    exact (h1.up (by omega) hx).up (by omega) ⟨by omega, by omega⟩
  · unfold pWaits
    simp only [gup_rd]
    simp
    omega
theorem EI.term {g : MG} (h : EI 0 g) (ht : g 34 0 < 6) {w x : Int} (hw : inr w) (hx : inr x) : EI 1 (pEmit (gup g 34 0 (g 34 0 + 1)) w x) := by
  obtain ⟨h1, h2, h3, h4, h5, h6, h7, h8⟩ := h
  have e24 : pEmit (gup g 34 0 (g 34 0 + 1)) w x 24 0 = g 24 0 := by rw [pE_ne (by omega), gup_ne (by omega)]
  have e29 : pEmit (gup g 34 0 (g 34 0 + 1)) w x 29 (g 24 0) = g 29 (g 24 0) + 1 := by unfold pEmit; simp [gup_rd]
  refine ⟨(h1.up (by omega) ⟨by omega, by omega⟩).emit hw hx ?_, ?_⟩
  · simp only [gup_rd]; simp; omega
  · rw [e24, pE_ne (k := 33) (by omega), pE_ne (k := 34) (by omega), pE_ne (k := 35) (by omega), e29]
    simp only [gup_rd]
    simp
    omega
theorem EI.marks : ∀ (k : Nat) (g : MG), EI 0 g → EI 0 (pMarks k g) := by
  intro k
  induction k with
  | zero => intro g h; exact h
  | succ k ih =>
    intro g h
    unfold pMarks
    by_cases c1 : g 18 0 = 3 ∧ (g 19 0 = 33 ∨ g 19 0 = 40)
    · rw [pIf_t c1]
      by_cases c2 : g 35 0 < 6
      · rw [pIf_t c2]; exact ih _ (h.mark c2 (h.1.1 _ _)).next
      · rw [pIf_f c2]; exact h.fault
    · rw [pIf_f c1]; exact h
section M6
variable {E : Ev} {am : Nat} {B : Nat → Nat} {h0 h : AH} {g : MG} {Q : Value → AH → Prop} {X : Nat → AH → Prop}
/-- behind a fault -/
theorem c_begins0B (hB : MB am B) {v : Option Value} (hI : PI g) (hf : g 20 0 ≠ -9) (K : Q .null (mkM am B h0 g)) : V E mX7_beginsTerm 6 0 0 [some (.ref am), v] [] (mkM am B h0 g) Q X := by
  obtain ⟨hr_g, -⟩ := hI
  refine V_aload_n dX7_beginsTerm_0 rfl ?_
  refine VM_getiE 20 (g 20 0) dX7_beginsTerm_1 q2626 (by decide) rfl rfl ?_
  refine V_bipush dX7_beginsTerm_4 (by decide) ?_
  refine V_icmp_ne 79 dX7_beginsTerm_6 (by decide) (by first | omega | exact hr_g _ _ | decide) (by first | omega | exact hr_g _ _ | decide) (fun c_6 => ?_) (fun c_6 => by exfalso; omega)
  refine V_aload_n dX7_beginsTerm_79 rfl ?_
  refine V_aload_n dX7_beginsTerm_80 rfl ?_
  refine VM_getiE 18 (g 18 0) dX7_beginsTerm_81 q2624 (by decide) rfl rfl ?_
  refine V_iconst dX7_beginsTerm_84 ?_
  refine V_icmp_eq 96 dX7_beginsTerm_85 (by decide) (by first | omega | exact hr_g _ _ | decide) (by first | omega | exact hr_g _ _ | decide) (fun c_85 => ?_) (fun c_85 => ?_)
  · refine V_aload_n dX7_beginsTerm_96 rfl ?_
    refine VM_getiE 34 (g 34 0) dX7_beginsTerm_97 q2640 (by decide) rfl rfl ?_
    refine V_bipush dX7_beginsTerm_100 (by decide) ?_
    refine V_icmp_ge 109 dX7_beginsTerm_102 (by decide) (by first | omega | exact hr_g _ _ | decide) (by first | omega | exact hr_g _ _ | decide) (fun c_102 => ?_) (fun c_102 => ?_)
    · refine V_iconst dX7_beginsTerm_109 ?_
      refine VM_v1 (M' := mX7_due) okX7_due rfl dX7_beginsTerm_110 q2796 rfl rfl (Nat.le_of_ble_eq_true rfl) (d' := 1) (b1 := 0) (by decide) (by decide) (c_X7_dueB hB hr_g (by first | omega | exact hr_g _ _ | decide) (by first | omega | (simp [gup, aup]; omega)) ?_)
      refine V_aload_n dX7_beginsTerm_113 rfl ?_
      refine VM_getiE 20 (g 20 0) dX7_beginsTerm_114 q2626 (by decide) rfl rfl ?_
      refine V_bipush dX7_beginsTerm_117 (by decide) ?_
      refine V_icmp_eq 123 dX7_beginsTerm_119 (by decide) (by first | omega | exact hr_g _ _ | decide) (by first | omega | exact hr_g _ _ | decide) (fun c_119 => by exfalso; omega) (fun c_119 => ?_)
      exact V_vret dX7_beginsTerm_122 rfl (by exact K)
    · refine V_iconst dX7_beginsTerm_105 ?_
      refine V_goto 110 dX7_beginsTerm_106 (by decide) ?_
      refine VM_v1 (M' := mX7_due) okX7_due rfl dX7_beginsTerm_110 q2796 rfl rfl (Nat.le_of_ble_eq_true rfl) (d' := 1) (b1 := 0) (by decide) (by decide) (c_X7_dueB hB hr_g (by first | omega | exact hr_g _ _ | decide) (by first | omega | (simp [gup, aup]; omega)) ?_)
      refine V_aload_n dX7_beginsTerm_113 rfl ?_
      refine VM_getiE 20 (g 20 0) dX7_beginsTerm_114 q2626 (by decide) rfl rfl ?_
      refine V_bipush dX7_beginsTerm_117 (by decide) ?_
      refine V_icmp_eq 123 dX7_beginsTerm_119 (by decide) (by first | omega | exact hr_g _ _ | decide) (by first | omega | exact hr_g _ _ | decide) (fun c_119 => by exfalso; omega) (fun c_119 => ?_)
      exact V_vret dX7_beginsTerm_122 rfl (by exact K)
  · refine V_aload_n dX7_beginsTerm_88 rfl ?_
    refine VM_getiE 18 (g 18 0) dX7_beginsTerm_89 q2624 (by decide) rfl rfl ?_
    refine V_iconst dX7_beginsTerm_92 ?_
    refine V_icmp_ne 109 dX7_beginsTerm_93 (by decide) (by first | omega | exact hr_g _ _ | decide) (by first | omega | exact hr_g _ _ | decide) (fun c_93 => ?_) (fun c_93 => ?_)
    · refine V_iconst dX7_beginsTerm_109 ?_
      refine VM_v1 (M' := mX7_due) okX7_due rfl dX7_beginsTerm_110 q2796 rfl rfl (Nat.le_of_ble_eq_true rfl) (d' := 1) (b1 := 0) (by decide) (by decide) (c_X7_dueB hB hr_g (by first | omega | exact hr_g _ _ | decide) (by first | omega | (simp [gup, aup]; omega)) ?_)
      refine V_aload_n dX7_beginsTerm_113 rfl ?_
      refine VM_getiE 20 (g 20 0) dX7_beginsTerm_114 q2626 (by decide) rfl rfl ?_
      refine V_bipush dX7_beginsTerm_117 (by decide) ?_
      refine V_icmp_eq 123 dX7_beginsTerm_119 (by decide) (by first | omega | exact hr_g _ _ | decide) (by first | omega | exact hr_g _ _ | decide) (fun c_119 => by exfalso; omega) (fun c_119 => ?_)
      exact V_vret dX7_beginsTerm_122 rfl (by exact K)
    · refine V_aload_n dX7_beginsTerm_96 rfl ?_
      refine VM_getiE 34 (g 34 0) dX7_beginsTerm_97 q2640 (by decide) rfl rfl ?_
      refine V_bipush dX7_beginsTerm_100 (by decide) ?_
      refine V_icmp_ge 109 dX7_beginsTerm_102 (by decide) (by first | omega | exact hr_g _ _ | decide) (by first | omega | exact hr_g _ _ | decide) (fun c_102 => ?_) (fun c_102 => ?_)
      · refine V_iconst dX7_beginsTerm_109 ?_
        refine VM_v1 (M' := mX7_due) okX7_due rfl dX7_beginsTerm_110 q2796 rfl rfl (Nat.le_of_ble_eq_true rfl) (d' := 1) (b1 := 0) (by decide) (by decide) (c_X7_dueB hB hr_g (by first | omega | exact hr_g _ _ | decide) (by first | omega | (simp [gup, aup]; omega)) ?_)
        refine V_aload_n dX7_beginsTerm_113 rfl ?_
        refine VM_getiE 20 (g 20 0) dX7_beginsTerm_114 q2626 (by decide) rfl rfl ?_
        refine V_bipush dX7_beginsTerm_117 (by decide) ?_
        refine V_icmp_eq 123 dX7_beginsTerm_119 (by decide) (by first | omega | exact hr_g _ _ | decide) (by first | omega | exact hr_g _ _ | decide) (fun c_119 => by exfalso; omega) (fun c_119 => ?_)
        exact V_vret dX7_beginsTerm_122 rfl (by exact K)
      · refine V_iconst dX7_beginsTerm_105 ?_
        refine V_goto 110 dX7_beginsTerm_106 (by decide) ?_
        refine VM_v1 (M' := mX7_due) okX7_due rfl dX7_beginsTerm_110 q2796 rfl rfl (Nat.le_of_ble_eq_true rfl) (d' := 1) (b1 := 0) (by decide) (by decide) (c_X7_dueB hB hr_g (by first | omega | exact hr_g _ _ | decide) (by first | omega | (simp [gup, aup]; omega)) ?_)
        refine V_aload_n dX7_beginsTerm_113 rfl ?_
        refine VM_getiE 20 (g 20 0) dX7_beginsTerm_114 q2626 (by decide) rfl rfl ?_
        refine V_bipush dX7_beginsTerm_117 (by decide) ?_
        refine V_icmp_eq 123 dX7_beginsTerm_119 (by decide) (by first | omega | exact hr_g _ _ | decide) (by first | omega | exact hr_g _ _ | decide) (fun c_119 => by exfalso; omega) (fun c_119 => ?_)
        exact V_vret dX7_beginsTerm_122 rfl (by exact K)
theorem c_begins113B (hB : MB am B) {v : Option Value} (hI : PI g) (hf : g 20 0 ≠ -9) (K : Q .null (mkM am B h0 g)) : V E mX7_beginsTerm 6 0 113 [some (.ref am), v] [] (mkM am B h0 g) Q X := by
  obtain ⟨hr_g, -⟩ := hI
  refine V_aload_n dX7_beginsTerm_113 rfl ?_
  refine VM_getiE 20 (g 20 0) dX7_beginsTerm_114 q2626 (by decide) rfl rfl ?_
  refine V_bipush dX7_beginsTerm_117 (by decide) ?_
  refine V_icmp_eq 123 dX7_beginsTerm_119 (by decide) (by first | omega | exact hr_g _ _ | decide) (by first | omega | exact hr_g _ _ | decide) (fun c_119 => by exfalso; omega) (fun c_119 => ?_)
  exact V_vret dX7_beginsTerm_122 rfl (by exact K)
theorem c_begins79 (hB : MB am B) {v : Option Value} (hI : EI 0 g) (hf : g 20 0 = -9) (K : Q .null (mkM am B h0 (pTerm g))) : V E mX7_beginsTerm 6 0 79 [some (.ref am), v] [] (mkM am B h0 g) Q X := by
  have hI' := hI
  obtain ⟨⟨hr_g, p2, p3, p4, p5, p6⟩, h2, h3, h4, h5, h6, h7, h8⟩ := hI
  unfold pTerm at K
  by_cases c1 : (g 18 0 = 2 ∨ g 18 0 = 1) ∧ g 34 0 < 6
  · rw [pIf_f (fun h9 => h9 c1)] at K
    have hIt := hI'.term c1.2 (w := 0) (x := g 19 0) (by decide) (hr_g _ _)
    by_cases c2 : g 18 0 = 2
    · rw [pIf_t c2] at K
      have p22 := hIt.1.2.1
      refine V_aload_n dX7_beginsTerm_79 rfl ?_
      refine V_aload_n dX7_beginsTerm_80 rfl ?_
      refine VM_getiE 18 (g 18 0) dX7_beginsTerm_81 q2624 (by decide) rfl rfl ?_
      refine V_iconst dX7_beginsTerm_84 ?_
      refine V_icmp_eq 96 dX7_beginsTerm_85 (by decide) (by first | omega | exact hr_g _ _ | decide) (by first | omega | exact hr_g _ _ | decide) (fun c_85 => ?_) (fun c_85 => by exfalso; omega)
      refine V_aload_n dX7_beginsTerm_96 rfl ?_
      refine VM_getiE 34 (g 34 0) dX7_beginsTerm_97 q2640 (by decide) rfl rfl ?_
      refine V_bipush dX7_beginsTerm_100 (by decide) ?_
      refine V_icmp_ge 109 dX7_beginsTerm_102 (by decide) (by first | omega | exact hr_g _ _ | decide) (by first | omega | exact hr_g _ _ | decide) (fun c_102 => by exfalso; omega) (fun c_102 => ?_)
      refine V_iconst dX7_beginsTerm_105 ?_
      refine V_goto 110 dX7_beginsTerm_106 (by decide) ?_
      refine VM_v1 (M' := mX7_due) okX7_due rfl dX7_beginsTerm_110 q2796 rfl rfl (Nat.le_of_ble_eq_true rfl) (d' := 1) (b1 := 0) (by decide) (by decide) (c_X7_due1 hB hr_g ?_)
      refine V_aload_n dX7_beginsTerm_113 rfl ?_
      refine VM_getiE 20 (g 20 0) dX7_beginsTerm_114 q2626 (by decide) rfl rfl ?_
      refine V_bipush dX7_beginsTerm_117 (by decide) ?_
      refine V_icmp_eq 123 dX7_beginsTerm_119 (by decide) (by first | omega | exact hr_g _ _ | decide) (by first | omega | exact hr_g _ _ | decide) (fun c_119 => ?_) (fun c_119 => by exfalso; omega)
      refine V_aload_n dX7_beginsTerm_123 rfl ?_
      refine V_dup dX7_beginsTerm_124 rfl ?_
      refine VM_getiE 34 (g 34 0) dX7_beginsTerm_125 q2640 (by decide) rfl rfl ?_
      refine V_iconst dX7_beginsTerm_128 ?_
      refine V_iadd dX7_beginsTerm_129 ?_
      refine VM_puti 34 dX7_beginsTerm_130 q2640 (by decide) rfl rfl mfs34 mna34 ?_
      refine V_aload_n dX7_beginsTerm_133 rfl ?_
      refine VM_getiE 18 (g 18 0) dX7_beginsTerm_134 q2624 (by decide) rfl rfl ?_
      refine V_iconst dX7_beginsTerm_137 ?_
      refine V_icmp_ne 157 dX7_beginsTerm_138 (by decide) (by first | omega | exact hr_g _ _ | decide) (by first | omega | exact hr_g _ _ | decide) (fun c_138 => by exfalso; omega) (fun c_138 => ?_)
      refine V_aload_n dX7_beginsTerm_141 rfl ?_
      refine V_iconst dX7_beginsTerm_142 ?_
      refine V_aload_n dX7_beginsTerm_143 rfl ?_
      refine VM_getiE 19 (g 19 0) dX7_beginsTerm_144 q2625 (by decide) rfl rfl ?_
      refine VM_v2 (M' := mX7_emits) okX7_emits rfl dX7_beginsTerm_147 q2836 rfl rfl (Nat.le_of_ble_eq_true rfl) (d' := 1) (b1 := 0) (by decide) (by decide) (c_X7_emits hB (Rng.up (v := (g 34 0) + 1) hr_g (by first | omega | exact hr_g _ _ | decide)) (by first | omega | exact hr_g _ _ | decide) (by first | omega | exact hr_g _ _ | decide) (by first | omega | (simp [gup, aup]; omega)) (by first | omega | (simp [gup, aup]; omega)) ?_)
      refine V_aload_n dX7_beginsTerm_150 rfl ?_
      refine VM_v0 (M' := mX7_next) okX7_next rfl dX7_beginsTerm_151 q2773 rfl rfl (Nat.le_of_ble_eq_true rfl) (d' := 3) (b1 := 0) (by decide) (by decide) (c_X7_next hB hIt.1.1 p22 ?_)
      refine V_goto 177 dX7_beginsTerm_154 (by decide) ?_
      exact V_vret dX7_beginsTerm_177 rfl (by exact K)
    · rw [pIf_f c2] at K
      have hIg : PI (gup g 34 0 (g 34 0 + 1)) := hI'.1.up (by omega) ⟨by omega, by omega⟩
      have hPI : PI (pPath (gup g 34 0 (g 34 0 + 1))).1 := PI.path _ _ _ hIg
      have hin := path_in 161 (gup g 34 0 (g 34 0 + 1)) (-9) hIg
      change (pPath (gup g 34 0 (g 34 0 + 1))).2 = 0 ∨ (0 ≤ (pPath (gup g 34 0 (g 34 0 + 1))).2 ∧ (pPath (gup g 34 0 (g 34 0 + 1))).2 < g 22 0) at hin
      have e24 : (pPath (gup g 34 0 (g 34 0 + 1))).1 24 = g 24 := pP_ne (by omega) _ _ _
      have e29 : (pPath (gup g 34 0 (g 34 0 + 1))).1 29 = g 29 := pP_ne (by omega) _ _ _
      have hrP := hPI.1
      by_cases c3 : (pPath (gup g 34 0 (g 34 0 + 1))).1 20 0 = -9
      · rw [pIf_t c3] at K
        refine V_aload_n dX7_beginsTerm_79 rfl ?_
        refine V_aload_n dX7_beginsTerm_80 rfl ?_
        refine VM_getiE 18 (g 18 0) dX7_beginsTerm_81 q2624 (by decide) rfl rfl ?_
        refine V_iconst dX7_beginsTerm_84 ?_
        refine V_icmp_eq 96 dX7_beginsTerm_85 (by decide) (by first | omega | exact hr_g _ _ | exact hrP _ _ | decide) (by first | omega | exact hr_g _ _ | exact hrP _ _ | decide) (fun c_85 => by exfalso; omega) (fun c_85 => ?_)
        refine V_aload_n dX7_beginsTerm_88 rfl ?_
        refine VM_getiE 18 (g 18 0) dX7_beginsTerm_89 q2624 (by decide) rfl rfl ?_
        refine V_iconst dX7_beginsTerm_92 ?_
        refine V_icmp_ne 109 dX7_beginsTerm_93 (by decide) (by first | omega | exact hr_g _ _ | exact hrP _ _ | decide) (by first | omega | exact hr_g _ _ | exact hrP _ _ | decide) (fun c_93 => by exfalso; omega) (fun c_93 => ?_)
        refine V_aload_n dX7_beginsTerm_96 rfl ?_
        refine VM_getiE 34 (g 34 0) dX7_beginsTerm_97 q2640 (by decide) rfl rfl ?_
        refine V_bipush dX7_beginsTerm_100 (by decide) ?_
        refine V_icmp_ge 109 dX7_beginsTerm_102 (by decide) (by first | omega | exact hr_g _ _ | exact hrP _ _ | decide) (by first | omega | exact hr_g _ _ | exact hrP _ _ | decide) (fun c_102 => by exfalso; omega) (fun c_102 => ?_)
        refine V_iconst dX7_beginsTerm_105 ?_
        refine V_goto 110 dX7_beginsTerm_106 (by decide) ?_
        refine VM_v1 (M' := mX7_due) okX7_due rfl dX7_beginsTerm_110 q2796 rfl rfl (Nat.le_of_ble_eq_true rfl) (d' := 1) (b1 := 0) (by decide) (by decide) (c_X7_due1 hB hr_g ?_)
        refine V_aload_n dX7_beginsTerm_113 rfl ?_
        refine VM_getiE 20 (g 20 0) dX7_beginsTerm_114 q2626 (by decide) rfl rfl ?_
        refine V_bipush dX7_beginsTerm_117 (by decide) ?_
        refine V_icmp_eq 123 dX7_beginsTerm_119 (by decide) (by first | omega | exact hr_g _ _ | exact hrP _ _ | decide) (by first | omega | exact hr_g _ _ | exact hrP _ _ | decide) (fun c_119 => ?_) (fun c_119 => by exfalso; omega)
        refine V_aload_n dX7_beginsTerm_123 rfl ?_
        refine V_dup dX7_beginsTerm_124 rfl ?_
        refine VM_getiE 34 (g 34 0) dX7_beginsTerm_125 q2640 (by decide) rfl rfl ?_
        refine V_iconst dX7_beginsTerm_128 ?_
        refine V_iadd dX7_beginsTerm_129 ?_
        refine VM_puti 34 dX7_beginsTerm_130 q2640 (by decide) rfl rfl mfs34 mna34 ?_
        refine V_aload_n dX7_beginsTerm_133 rfl ?_
        refine VM_getiE 18 (g 18 0) dX7_beginsTerm_134 q2624 (by decide) rfl rfl ?_
        refine V_iconst dX7_beginsTerm_137 ?_
        refine V_icmp_ne 157 dX7_beginsTerm_138 (by decide) (by first | omega | exact hr_g _ _ | exact hrP _ _ | decide) (by first | omega | exact hr_g _ _ | exact hrP _ _ | decide) (fun c_138 => ?_) (fun c_138 => by exfalso; omega)
        refine V_aload_n dX7_beginsTerm_157 rfl ?_
        refine VM_c0 (M' := mX7_readsPath) okX7_readsPath rfl dX7_beginsTerm_158 q2820 rfl rfl (Nat.le_of_ble_eq_true rfl) (d' := 5) (b1 := 0) (by decide) (by decide) (c_X7_readsPath hB hIg (by simp [gup, aup]; omega) ?_)
        refine V_istore_n dX7_beginsTerm_161 (by decide) ?_
        refine V_aload_n dX7_beginsTerm_162 rfl ?_
        refine VM_getiE 20 ((((pPath (gup g 34 0 ((g 34 0) + 1))).1)) 20 0) dX7_beginsTerm_163 q2626 (by decide) rfl rfl ?_
        refine V_bipush dX7_beginsTerm_166 (by decide) ?_
        refine V_icmp_ne 177 dX7_beginsTerm_168 (by decide) (by first | omega | exact hr_g _ _ | exact hrP _ _ | decide) (by first | omega | exact hr_g _ _ | exact hrP _ _ | decide) (fun c_168 => by exfalso; omega) (fun c_168 => ?_)
        refine V_aload_n dX7_beginsTerm_171 rfl ?_
        refine V_iconst dX7_beginsTerm_172 ?_
        refine V_iload_n dX7_beginsTerm_173 rfl ?_
        refine VM_v2 (M' := mX7_emits) okX7_emits rfl dX7_beginsTerm_174 q2836 rfl rfl (Nat.le_of_ble_eq_true rfl) (d' := 1) (b1 := 0) (by decide) (by decide) (c_X7_emits hB hrP (by first | omega | exact hr_g _ _ | exact hrP _ _ | decide) (by first | omega | exact hr_g _ _ | exact hrP _ _ | decide) (by rw [e24]; omega) (by rw [e24, e29]; omega) ?_)
        exact V_vret dX7_beginsTerm_177 rfl (by exact K)
      · rw [pIf_f c3] at K
        refine V_aload_n dX7_beginsTerm_79 rfl ?_
        refine V_aload_n dX7_beginsTerm_80 rfl ?_
        refine VM_getiE 18 (g 18 0) dX7_beginsTerm_81 q2624 (by decide) rfl rfl ?_
        refine V_iconst dX7_beginsTerm_84 ?_
        refine V_icmp_eq 96 dX7_beginsTerm_85 (by decide) (by first | omega | exact hr_g _ _ | exact hrP _ _ | decide) (by first | omega | exact hr_g _ _ | exact hrP _ _ | decide) (fun c_85 => by exfalso; omega) (fun c_85 => ?_)
        refine V_aload_n dX7_beginsTerm_88 rfl ?_
        refine VM_getiE 18 (g 18 0) dX7_beginsTerm_89 q2624 (by decide) rfl rfl ?_
        refine V_iconst dX7_beginsTerm_92 ?_
        refine V_icmp_ne 109 dX7_beginsTerm_93 (by decide) (by first | omega | exact hr_g _ _ | exact hrP _ _ | decide) (by first | omega | exact hr_g _ _ | exact hrP _ _ | decide) (fun c_93 => by exfalso; omega) (fun c_93 => ?_)
        refine V_aload_n dX7_beginsTerm_96 rfl ?_
        refine VM_getiE 34 (g 34 0) dX7_beginsTerm_97 q2640 (by decide) rfl rfl ?_
        refine V_bipush dX7_beginsTerm_100 (by decide) ?_
        refine V_icmp_ge 109 dX7_beginsTerm_102 (by decide) (by first | omega | exact hr_g _ _ | exact hrP _ _ | decide) (by first | omega | exact hr_g _ _ | exact hrP _ _ | decide) (fun c_102 => by exfalso; omega) (fun c_102 => ?_)
        refine V_iconst dX7_beginsTerm_105 ?_
        refine V_goto 110 dX7_beginsTerm_106 (by decide) ?_
        refine VM_v1 (M' := mX7_due) okX7_due rfl dX7_beginsTerm_110 q2796 rfl rfl (Nat.le_of_ble_eq_true rfl) (d' := 1) (b1 := 0) (by decide) (by decide) (c_X7_due1 hB hr_g ?_)
        refine V_aload_n dX7_beginsTerm_113 rfl ?_
        refine VM_getiE 20 (g 20 0) dX7_beginsTerm_114 q2626 (by decide) rfl rfl ?_
        refine V_bipush dX7_beginsTerm_117 (by decide) ?_
        refine V_icmp_eq 123 dX7_beginsTerm_119 (by decide) (by first | omega | exact hr_g _ _ | exact hrP _ _ | decide) (by first | omega | exact hr_g _ _ | exact hrP _ _ | decide) (fun c_119 => ?_) (fun c_119 => by exfalso; omega)
        refine V_aload_n dX7_beginsTerm_123 rfl ?_
        refine V_dup dX7_beginsTerm_124 rfl ?_
        refine VM_getiE 34 (g 34 0) dX7_beginsTerm_125 q2640 (by decide) rfl rfl ?_
        refine V_iconst dX7_beginsTerm_128 ?_
        refine V_iadd dX7_beginsTerm_129 ?_
        refine VM_puti 34 dX7_beginsTerm_130 q2640 (by decide) rfl rfl mfs34 mna34 ?_
        refine V_aload_n dX7_beginsTerm_133 rfl ?_
        refine VM_getiE 18 (g 18 0) dX7_beginsTerm_134 q2624 (by decide) rfl rfl ?_
        refine V_iconst dX7_beginsTerm_137 ?_
        refine V_icmp_ne 157 dX7_beginsTerm_138 (by decide) (by first | omega | exact hr_g _ _ | exact hrP _ _ | decide) (by first | omega | exact hr_g _ _ | exact hrP _ _ | decide) (fun c_138 => ?_) (fun c_138 => by exfalso; omega)
        refine V_aload_n dX7_beginsTerm_157 rfl ?_
        refine VM_c0 (M' := mX7_readsPath) okX7_readsPath rfl dX7_beginsTerm_158 q2820 rfl rfl (Nat.le_of_ble_eq_true rfl) (d' := 5) (b1 := 0) (by decide) (by decide) (c_X7_readsPath hB hIg (by simp [gup, aup]; omega) ?_)
        refine V_istore_n dX7_beginsTerm_161 (by decide) ?_
        refine V_aload_n dX7_beginsTerm_162 rfl ?_
        refine VM_getiE 20 ((((pPath (gup g 34 0 ((g 34 0) + 1))).1)) 20 0) dX7_beginsTerm_163 q2626 (by decide) rfl rfl ?_
        refine V_bipush dX7_beginsTerm_166 (by decide) ?_
        refine V_icmp_ne 177 dX7_beginsTerm_168 (by decide) (by first | omega | exact hr_g _ _ | exact hrP _ _ | decide) (by first | omega | exact hr_g _ _ | exact hrP _ _ | decide) (fun c_168 => ?_) (fun c_168 => by exfalso; omega)
        exact V_vret dX7_beginsTerm_177 rfl (by exact K)
  · rw [pIf_t c1] at K
    refine V_aload_n dX7_beginsTerm_79 rfl ?_
    refine V_aload_n dX7_beginsTerm_80 rfl ?_
    refine VM_getiE 18 (g 18 0) dX7_beginsTerm_81 q2624 (by decide) rfl rfl ?_
    refine V_iconst dX7_beginsTerm_84 ?_
    refine V_icmp_eq 96 dX7_beginsTerm_85 (by decide) (by first | omega | exact hr_g _ _ | decide) (by first | omega | exact hr_g _ _ | decide) (fun c_85 => ?_) (fun c_85 => ?_)
    · refine V_aload_n dX7_beginsTerm_96 rfl ?_
      refine VM_getiE 34 (g 34 0) dX7_beginsTerm_97 q2640 (by decide) rfl rfl ?_
      refine V_bipush dX7_beginsTerm_100 (by decide) ?_
      refine V_icmp_ge 109 dX7_beginsTerm_102 (by decide) (by first | omega | exact hr_g _ _ | decide) (by first | omega | exact hr_g _ _ | decide) (fun c_102 => ?_) (fun c_102 => ?_)
      · refine V_iconst dX7_beginsTerm_109 ?_
        refine VM_v1 (M' := mX7_due) okX7_due rfl dX7_beginsTerm_110 q2796 rfl rfl (Nat.le_of_ble_eq_true rfl) (d' := 1) (b1 := 0) (by decide) (by decide) (c_X7_due0 hB hr_g (by first | omega | (simp [gup, aup]; omega)) ?_)
        exact c_begins113B hB hI'.1.fault (by simp [pFault, gup, aup]; omega) K
      · refine V_iconst dX7_beginsTerm_105 ?_
        refine V_goto 110 dX7_beginsTerm_106 (by decide) ?_
        refine VM_v1 (M' := mX7_due) okX7_due rfl dX7_beginsTerm_110 q2796 rfl rfl (Nat.le_of_ble_eq_true rfl) (d' := 1) (b1 := 0) (by decide) (by decide) (c_X7_due1 hB hr_g ?_)
        first | exact absurd ⟨Or.inl (by omega), by omega⟩ c1 | exact absurd ⟨Or.inr (by omega), by omega⟩ c1
    · refine V_aload_n dX7_beginsTerm_88 rfl ?_
      refine VM_getiE 18 (g 18 0) dX7_beginsTerm_89 q2624 (by decide) rfl rfl ?_
      refine V_iconst dX7_beginsTerm_92 ?_
      refine V_icmp_ne 109 dX7_beginsTerm_93 (by decide) (by first | omega | exact hr_g _ _ | decide) (by first | omega | exact hr_g _ _ | decide) (fun c_93 => ?_) (fun c_93 => ?_)
      · refine V_iconst dX7_beginsTerm_109 ?_
        refine VM_v1 (M' := mX7_due) okX7_due rfl dX7_beginsTerm_110 q2796 rfl rfl (Nat.le_of_ble_eq_true rfl) (d' := 1) (b1 := 0) (by decide) (by decide) (c_X7_due0 hB hr_g (by first | omega | (simp [gup, aup]; omega)) ?_)
        exact c_begins113B hB hI'.1.fault (by simp [pFault, gup, aup]; omega) K
      · refine V_aload_n dX7_beginsTerm_96 rfl ?_
        refine VM_getiE 34 (g 34 0) dX7_beginsTerm_97 q2640 (by decide) rfl rfl ?_
        refine V_bipush dX7_beginsTerm_100 (by decide) ?_
        refine V_icmp_ge 109 dX7_beginsTerm_102 (by decide) (by first | omega | exact hr_g _ _ | decide) (by first | omega | exact hr_g _ _ | decide) (fun c_102 => ?_) (fun c_102 => ?_)
        · refine V_iconst dX7_beginsTerm_109 ?_
          refine VM_v1 (M' := mX7_due) okX7_due rfl dX7_beginsTerm_110 q2796 rfl rfl (Nat.le_of_ble_eq_true rfl) (d' := 1) (b1 := 0) (by decide) (by decide) (c_X7_due0 hB hr_g (by first | omega | (simp [gup, aup]; omega)) ?_)
          exact c_begins113B hB hI'.1.fault (by simp [pFault, gup, aup]; omega) K
        · refine V_iconst dX7_beginsTerm_105 ?_
          refine V_goto 110 dX7_beginsTerm_106 (by decide) ?_
          refine VM_v1 (M' := mX7_due) okX7_due rfl dX7_beginsTerm_110 q2796 rfl rfl (Nat.le_of_ble_eq_true rfl) (d' := 1) (b1 := 0) (by decide) (by decide) (c_X7_due1 hB hr_g ?_)
          first | exact absurd ⟨Or.inl (by omega), by omega⟩ c1 | exact absurd ⟨Or.inr (by omega), by omega⟩ c1
theorem c_begins0 (hB : MB am B) {v : Option Value} : ∀ (k : Nat) (g : MG), EI 0 g → g 20 0 = -9 → 6 - g 35 0 < k → Q .null (mkM am B h0 (pIf (pMarks k g 20 0 = -9) (pTerm (pMarks k g)) (pMarks k g))) → V E mX7_beginsTerm 6 0 0 [some (.ref am), v] [] (mkM am B h0 g) Q X := by
  intro k
  induction k with
  | zero =>
    intro g hI hf hk
    have := hI.2.2.2.2.2.1
    omega
  | succ k ih =>
    intro g hI hf hk K
    have hI' := hI
    obtain ⟨⟨hr_g, p2, p3, p4, p5, p6⟩, h2, h3, h4, h5, h6, h7, h8⟩ := hI
    unfold pMarks at K
    by_cases c1 : g 18 0 = 3 ∧ (g 19 0 = 33 ∨ g 19 0 = 40)
    · rw [pIf_t c1] at K
      by_cases c2 : g 35 0 < 6
      · rw [pIf_t c2] at K
        have hm := hI'.mark c2 (hr_g _ _)
        have hm2 := hm.1.2.1
        refine V_aload_n dX7_beginsTerm_0 rfl ?_
        refine VM_getiE 20 (g 20 0) dX7_beginsTerm_1 q2626 (by decide) rfl rfl ?_
        refine V_bipush dX7_beginsTerm_4 (by decide) ?_
        refine V_icmp_ne 79 dX7_beginsTerm_6 (by decide) (by first | omega | exact hr_g _ _ | decide) (by first | omega | exact hr_g _ _ | decide) (fun c_6 => by exfalso; omega) (fun c_6 => ?_)
        refine V_aload_n dX7_beginsTerm_9 rfl ?_
        refine V_bipush dX7_beginsTerm_10 (by decide) ?_
        refine VM_c1 (M' := mX7_is) okX7_is rfl dX7_beginsTerm_12 q2788 rfl rfl (Nat.le_of_ble_eq_true rfl) (d' := 1) (b1 := 0) (by decide) (by decide) (c_X7_is hB hr_g (by first | omega | exact hr_g _ _ | decide) (fun c_12 => ?_) (fun c_12 => ?_))
        · refine V_if_ne 27 dX7_beginsTerm_15 (by decide) (by first | omega | exact hr_g _ _ | decide) (fun c_15 => ?_) (fun c_15 => absurd c_15 (by decide))
          refine V_aload_n dX7_beginsTerm_27 rfl ?_
          refine V_aload_n dX7_beginsTerm_28 rfl ?_
          refine VM_getiE 35 (g 35 0) dX7_beginsTerm_29 q2641 (by decide) rfl rfl ?_
          refine V_bipush dX7_beginsTerm_32 (by decide) ?_
          refine V_icmp_ge 41 dX7_beginsTerm_34 (by decide) (by first | omega | exact hr_g _ _ | decide) (by first | omega | exact hr_g _ _ | decide) (fun c_34 => by exfalso; omega) (fun c_34 => ?_)
          refine V_iconst dX7_beginsTerm_37 ?_
          refine V_goto 42 dX7_beginsTerm_38 (by decide) ?_
          refine VM_v1 (M' := mX7_due) okX7_due rfl dX7_beginsTerm_42 q2796 rfl rfl (Nat.le_of_ble_eq_true rfl) (d' := 1) (b1 := 0) (by decide) (by decide) (c_X7_due1 hB hr_g ?_)
          refine V_aload_n dX7_beginsTerm_45 rfl ?_
          refine VM_getiE 20 (g 20 0) dX7_beginsTerm_46 q2626 (by decide) rfl rfl ?_
          refine V_bipush dX7_beginsTerm_49 (by decide) ?_
          refine V_icmp_ne 0 dX7_beginsTerm_51 (by decide) (by first | omega | exact hr_g _ _ | decide) (by first | omega | exact hr_g _ _ | decide) (fun c_51 => by exfalso; omega) (fun c_51 => ?_)
          refine V_aload_n dX7_beginsTerm_54 rfl ?_
          refine V_dup dX7_beginsTerm_55 rfl ?_
          refine VM_getiE 35 (g 35 0) dX7_beginsTerm_56 q2641 (by decide) rfl rfl ?_
          refine V_iconst dX7_beginsTerm_59 ?_
          refine V_iadd dX7_beginsTerm_60 ?_
          refine VM_puti 35 dX7_beginsTerm_61 q2641 (by decide) rfl rfl mfs35 mna35 ?_
          refine V_aload_n dX7_beginsTerm_64 rfl ?_
          refine V_aload_n dX7_beginsTerm_65 rfl ?_
          refine VM_getiE 19 (g 19 0) dX7_beginsTerm_66 q2625 (by decide) rfl rfl ?_
          refine VM_v1 (M' := mX7_waitsFor) okX7_waitsFor rfl dX7_beginsTerm_69 q2832 rfl rfl (Nat.le_of_ble_eq_true rfl) (d' := 1) (b1 := 0) (by decide) (by decide) (c_X7_waitsFor hB (Rng.up (v := (g 35 0) + 1) hr_g (by first | omega | exact hr_g _ _ | decide)) (by first | omega | exact hr_g _ _ | decide) (by first | omega | (simp [gup, aup]; omega)) ?_)
          refine V_aload_n dX7_beginsTerm_72 rfl ?_
          refine VM_v0 (M' := mX7_next) okX7_next rfl dX7_beginsTerm_73 q2773 rfl rfl (Nat.le_of_ble_eq_true rfl) (d' := 3) (b1 := 0) (by decide) (by decide) (c_X7_next hB hm.1.1 hm2 ?_)
          refine V_goto 0 dX7_beginsTerm_76 (by decide) ?_
          exact ih _ hm.next (by rw [pN_ne (by omega), pW_ne (by omega), gup_ne (by omega)]; exact hf) (by rw [pN_ne (by omega), pW_ne (by omega)]; simp [gup, aup]; omega) K
        · refine V_if_ne 27 dX7_beginsTerm_15 (by decide) (by first | omega | exact hr_g _ _ | decide) (fun c_15 => absurd c_15 (by decide)) (fun c_15 => ?_)
          refine V_aload_n dX7_beginsTerm_18 rfl ?_
          refine V_bipush dX7_beginsTerm_19 (by decide) ?_
          refine VM_c1 (M' := mX7_is) okX7_is rfl dX7_beginsTerm_21 q2788 rfl rfl (Nat.le_of_ble_eq_true rfl) (d' := 1) (b1 := 0) (by decide) (by decide) (c_X7_is hB hr_g (by first | omega | exact hr_g _ _ | decide) (fun c_21 => ?_) (fun c_21 => ?_))
          · refine V_if_eq 79 dX7_beginsTerm_24 (by decide) (by first | omega | exact hr_g _ _ | decide) (fun c_24 => absurd c_24 (by decide)) (fun c_24 => ?_)
            refine V_aload_n dX7_beginsTerm_27 rfl ?_
            refine V_aload_n dX7_beginsTerm_28 rfl ?_
            refine VM_getiE 35 (g 35 0) dX7_beginsTerm_29 q2641 (by decide) rfl rfl ?_
            refine V_bipush dX7_beginsTerm_32 (by decide) ?_
            refine V_icmp_ge 41 dX7_beginsTerm_34 (by decide) (by first | omega | exact hr_g _ _ | decide) (by first | omega | exact hr_g _ _ | decide) (fun c_34 => by exfalso; omega) (fun c_34 => ?_)
            refine V_iconst dX7_beginsTerm_37 ?_
            refine V_goto 42 dX7_beginsTerm_38 (by decide) ?_
            refine VM_v1 (M' := mX7_due) okX7_due rfl dX7_beginsTerm_42 q2796 rfl rfl (Nat.le_of_ble_eq_true rfl) (d' := 1) (b1 := 0) (by decide) (by decide) (c_X7_due1 hB hr_g ?_)
            refine V_aload_n dX7_beginsTerm_45 rfl ?_
            refine VM_getiE 20 (g 20 0) dX7_beginsTerm_46 q2626 (by decide) rfl rfl ?_
            refine V_bipush dX7_beginsTerm_49 (by decide) ?_
            refine V_icmp_ne 0 dX7_beginsTerm_51 (by decide) (by first | omega | exact hr_g _ _ | decide) (by first | omega | exact hr_g _ _ | decide) (fun c_51 => by exfalso; omega) (fun c_51 => ?_)
            refine V_aload_n dX7_beginsTerm_54 rfl ?_
            refine V_dup dX7_beginsTerm_55 rfl ?_
            refine VM_getiE 35 (g 35 0) dX7_beginsTerm_56 q2641 (by decide) rfl rfl ?_
            refine V_iconst dX7_beginsTerm_59 ?_
            refine V_iadd dX7_beginsTerm_60 ?_
            refine VM_puti 35 dX7_beginsTerm_61 q2641 (by decide) rfl rfl mfs35 mna35 ?_
            refine V_aload_n dX7_beginsTerm_64 rfl ?_
            refine V_aload_n dX7_beginsTerm_65 rfl ?_
            refine VM_getiE 19 (g 19 0) dX7_beginsTerm_66 q2625 (by decide) rfl rfl ?_
            refine VM_v1 (M' := mX7_waitsFor) okX7_waitsFor rfl dX7_beginsTerm_69 q2832 rfl rfl (Nat.le_of_ble_eq_true rfl) (d' := 1) (b1 := 0) (by decide) (by decide) (c_X7_waitsFor hB (Rng.up (v := (g 35 0) + 1) hr_g (by first | omega | exact hr_g _ _ | decide)) (by first | omega | exact hr_g _ _ | decide) (by first | omega | (simp [gup, aup]; omega)) ?_)
            refine V_aload_n dX7_beginsTerm_72 rfl ?_
            refine VM_v0 (M' := mX7_next) okX7_next rfl dX7_beginsTerm_73 q2773 rfl rfl (Nat.le_of_ble_eq_true rfl) (d' := 3) (b1 := 0) (by decide) (by decide) (c_X7_next hB hm.1.1 hm2 ?_)
            refine V_goto 0 dX7_beginsTerm_76 (by decide) ?_
            exact ih _ hm.next (by rw [pN_ne (by omega), pW_ne (by omega), gup_ne (by omega)]; exact hf) (by rw [pN_ne (by omega), pW_ne (by omega)]; simp [gup, aup]; omega) K
          · refine V_if_eq 79 dX7_beginsTerm_24 (by decide) (by first | omega | exact hr_g _ _ | decide) (fun c_24 => ?_) (fun c_24 => absurd c_24 (by decide))
            exfalso; omega
            skip
      · rw [pIf_f c2] at K
        have e9 : g 17 0 ≠ -9 := by omega
        rw [pIf_f (by simp [pFault, gup, aup]; exact e9)] at K
        refine V_aload_n dX7_beginsTerm_0 rfl ?_
        refine VM_getiE 20 (g 20 0) dX7_beginsTerm_1 q2626 (by decide) rfl rfl ?_
        refine V_bipush dX7_beginsTerm_4 (by decide) ?_
        refine V_icmp_ne 79 dX7_beginsTerm_6 (by decide) (by first | omega | exact hr_g _ _ | decide) (by first | omega | exact hr_g _ _ | decide) (fun c_6 => by exfalso; omega) (fun c_6 => ?_)
        refine V_aload_n dX7_beginsTerm_9 rfl ?_
        refine V_bipush dX7_beginsTerm_10 (by decide) ?_
        refine VM_c1 (M' := mX7_is) okX7_is rfl dX7_beginsTerm_12 q2788 rfl rfl (Nat.le_of_ble_eq_true rfl) (d' := 1) (b1 := 0) (by decide) (by decide) (c_X7_is hB hr_g (by first | omega | exact hr_g _ _ | decide) (fun c_12 => ?_) (fun c_12 => ?_))
        · refine V_if_ne 27 dX7_beginsTerm_15 (by decide) (by first | omega | exact hr_g _ _ | decide) (fun c_15 => ?_) (fun c_15 => absurd c_15 (by decide))
          refine V_aload_n dX7_beginsTerm_27 rfl ?_
          refine V_aload_n dX7_beginsTerm_28 rfl ?_
          refine VM_getiE 35 (g 35 0) dX7_beginsTerm_29 q2641 (by decide) rfl rfl ?_
          refine V_bipush dX7_beginsTerm_32 (by decide) ?_
          refine V_icmp_ge 41 dX7_beginsTerm_34 (by decide) (by first | omega | exact hr_g _ _ | decide) (by first | omega | exact hr_g _ _ | decide) (fun c_34 => ?_) (fun c_34 => by exfalso; omega)
          refine V_iconst dX7_beginsTerm_41 ?_
          refine VM_v1 (M' := mX7_due) okX7_due rfl dX7_beginsTerm_42 q2796 rfl rfl (Nat.le_of_ble_eq_true rfl) (d' := 1) (b1 := 0) (by decide) (by decide) (c_X7_due0 hB hr_g (by first | omega | (simp [gup, aup]; omega)) ?_)
          refine V_aload_n dX7_beginsTerm_45 rfl ?_
          refine VM_getiE 20 (g 17 0) dX7_beginsTerm_46 q2626 (by decide) rfl rfl ?_
          refine V_bipush dX7_beginsTerm_49 (by decide) ?_
          refine V_icmp_ne 0 dX7_beginsTerm_51 (by decide) (by first | omega | exact hr_g _ _ | decide) (by first | omega | exact hr_g _ _ | decide) (fun c_51 => ?_) (fun c_51 => by exfalso; omega)
          exact c_begins0B hB hI'.1.fault (by simp [pFault, gup, aup]; omega) K
        · refine V_if_ne 27 dX7_beginsTerm_15 (by decide) (by first | omega | exact hr_g _ _ | decide) (fun c_15 => absurd c_15 (by decide)) (fun c_15 => ?_)
          refine V_aload_n dX7_beginsTerm_18 rfl ?_
          refine V_bipush dX7_beginsTerm_19 (by decide) ?_
          refine VM_c1 (M' := mX7_is) okX7_is rfl dX7_beginsTerm_21 q2788 rfl rfl (Nat.le_of_ble_eq_true rfl) (d' := 1) (b1 := 0) (by decide) (by decide) (c_X7_is hB hr_g (by first | omega | exact hr_g _ _ | decide) (fun c_21 => ?_) (fun c_21 => ?_))
          · refine V_if_eq 79 dX7_beginsTerm_24 (by decide) (by first | omega | exact hr_g _ _ | decide) (fun c_24 => absurd c_24 (by decide)) (fun c_24 => ?_)
            refine V_aload_n dX7_beginsTerm_27 rfl ?_
            refine V_aload_n dX7_beginsTerm_28 rfl ?_
            refine VM_getiE 35 (g 35 0) dX7_beginsTerm_29 q2641 (by decide) rfl rfl ?_
            refine V_bipush dX7_beginsTerm_32 (by decide) ?_
            refine V_icmp_ge 41 dX7_beginsTerm_34 (by decide) (by first | omega | exact hr_g _ _ | decide) (by first | omega | exact hr_g _ _ | decide) (fun c_34 => ?_) (fun c_34 => by exfalso; omega)
            refine V_iconst dX7_beginsTerm_41 ?_
            refine VM_v1 (M' := mX7_due) okX7_due rfl dX7_beginsTerm_42 q2796 rfl rfl (Nat.le_of_ble_eq_true rfl) (d' := 1) (b1 := 0) (by decide) (by decide) (c_X7_due0 hB hr_g (by first | omega | (simp [gup, aup]; omega)) ?_)
            refine V_aload_n dX7_beginsTerm_45 rfl ?_
            refine VM_getiE 20 (g 17 0) dX7_beginsTerm_46 q2626 (by decide) rfl rfl ?_
            refine V_bipush dX7_beginsTerm_49 (by decide) ?_
            refine V_icmp_ne 0 dX7_beginsTerm_51 (by decide) (by first | omega | exact hr_g _ _ | decide) (by first | omega | exact hr_g _ _ | decide) (fun c_51 => ?_) (fun c_51 => by exfalso; omega)
            exact c_begins0B hB hI'.1.fault (by simp [pFault, gup, aup]; omega) K
          · refine V_if_eq 79 dX7_beginsTerm_24 (by decide) (by first | omega | exact hr_g _ _ | decide) (fun c_24 => ?_) (fun c_24 => absurd c_24 (by decide))
            exfalso; omega
            skip
    · rw [pIf_f c1] at K
      rw [pIf_t hf] at K
      refine V_aload_n dX7_beginsTerm_0 rfl ?_
      refine VM_getiE 20 (g 20 0) dX7_beginsTerm_1 q2626 (by decide) rfl rfl ?_
      refine V_bipush dX7_beginsTerm_4 (by decide) ?_
      refine V_icmp_ne 79 dX7_beginsTerm_6 (by decide) (by first | omega | exact hr_g _ _ | decide) (by first | omega | exact hr_g _ _ | decide) (fun c_6 => by exfalso; omega) (fun c_6 => ?_)
      refine V_aload_n dX7_beginsTerm_9 rfl ?_
      refine V_bipush dX7_beginsTerm_10 (by decide) ?_
      refine VM_c1 (M' := mX7_is) okX7_is rfl dX7_beginsTerm_12 q2788 rfl rfl (Nat.le_of_ble_eq_true rfl) (d' := 1) (b1 := 0) (by decide) (by decide) (c_X7_is hB hr_g (by first | omega | exact hr_g _ _ | decide) (fun c_12 => ?_) (fun c_12 => ?_))
      · refine V_if_ne 27 dX7_beginsTerm_15 (by decide) (by first | omega | exact hr_g _ _ | decide) (fun c_15 => ?_) (fun c_15 => absurd c_15 (by decide))
        exfalso; omega
      · refine V_if_ne 27 dX7_beginsTerm_15 (by decide) (by first | omega | exact hr_g _ _ | decide) (fun c_15 => absurd c_15 (by decide)) (fun c_15 => ?_)
        refine V_aload_n dX7_beginsTerm_18 rfl ?_
        refine V_bipush dX7_beginsTerm_19 (by decide) ?_
        refine VM_c1 (M' := mX7_is) okX7_is rfl dX7_beginsTerm_21 q2788 rfl rfl (Nat.le_of_ble_eq_true rfl) (d' := 1) (b1 := 0) (by decide) (by decide) (c_X7_is hB hr_g (by first | omega | exact hr_g _ _ | decide) (fun c_21 => ?_) (fun c_21 => ?_))
        · refine V_if_eq 79 dX7_beginsTerm_24 (by decide) (by first | omega | exact hr_g _ _ | decide) (fun c_24 => absurd c_24 (by decide)) (fun c_24 => ?_)
          exfalso; omega
        · refine V_if_eq 79 dX7_beginsTerm_24 (by decide) (by first | omega | exact hr_g _ _ | decide) (fun c_24 => ?_) (fun c_24 => absurd c_24 (by decide))
          exact c_begins79 hB hI' hf K
theorem c_X7_beginsTerm (hB : MB am B) (hI : EI 0 g) (hf : g 20 0 = -9) (K : Q .null (mkM am B h0 (pBegin g))) : V E mX7_beginsTerm 6 0 0 [some (.ref am), none] [] (mkM am B h0 g) Q X :=
  c_begins0 hB 7 g hI hf (by obtain ⟨_, h2, h3, h4, h5, h6, h7, h8⟩ := hI; omega) K
end M6
