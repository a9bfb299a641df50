/-! THE REFERENCE'S METHODS, part 4: paths; what an expression's steps are laid in -/
theorem pN_lt {g : MG} (h : PI g) (h4 : pNext g 18 0 ≠ 4) : g 16 0 < pNext g 16 0 := by
  obtain ⟨-, h2, -⟩ := h
  have a1 := tkS_in (tx := g 14) h2.2.1
  have a2 := tkEnd_in (tx := g 14) a1.2 (by omega)
  rw [pN_16]
  rw [pN_18] at h4
  have : tkS (g 14) (g 15 0) (g 16 0) ≠ g 15 0 := by
    intro e
    apply h4
    unfold tkSort
    rw [pIf_t e]
  omega
theorem pN_le {g : MG} (h : PI g) : g 16 0 ≤ pNext g 16 0 := by
  obtain ⟨-, h2, -⟩ := h
  have a1 := tkS_in (tx := g 14) h2.2.1
  have a2 := tkEnd_in (tx := g 14) a1.2 (by omega)
  rw [pN_16]
  omega
/-- a node by its path, from a scope on: what stands then, and the node -/
noncomputable def pPathN : Nat → MG → Int → MG × Int
  | 0, g, _ => (g, 0)
  | k + 1, g, sc => pIf (¬ (g 18 0 = 1 ∧ (nNB g sc (g 19 0) ≠ -9 ∨ nSB g sc (g 19 0) ≠ -9))) (pFault g, 0)
      (pIf (nNB g sc (g 19 0) ≠ -9) (pNext g, nNB g sc (g 19 0))
        (pIf (¬ (pNext g 18 0 = 3 ∧ pNext g 19 0 = 46)) (pFault (pNext g), 0) (pPathN k (pNext (pNext g)) (nSB g sc (g 19 0)))))
noncomputable def pPath (g : MG) : MG × Int := pPathN 161 g (-9)
theorem nNB_i {g : MG} (h : PI g) (sc nm : Int) : -2147483648 ≤ nNB g sc nm ∧ nNB g sc nm ≤ 2147483647 := lastI_r h.2.2.1.1 (by have := h.2.2.1; omega)
theorem nSB_i {g : MG} (h : PI g) (sc nm : Int) : -2147483648 ≤ nSB g sc nm ∧ nSB g sc nm ≤ 2147483647 := lastI_r h.2.2.2.1.1 (by have := h.2.2.2.1; omega)
theorem nNB_in {g : MG} (h : PI g) (sc nm : Int) : nNB g sc nm = -9 ∨ (0 ≤ nNB g sc nm ∧ nNB g sc nm < g 22 0) := by
  rcases lastI_in (p := fun n => decide (g 21 (6 * n + 3) = sc ∧ g 21 (6 * n + 4) = nm)) h.2.2.1.1 with a | a
  · exact Or.inl a
  · exact Or.inr ⟨a.1, a.2.1⟩
theorem nSB_in {g : MG} (h : PI g) (sc nm : Int) : nSB g sc nm = -9 ∨ (0 ≤ nSB g sc nm ∧ nSB g sc nm < g 27 0) := by
  rcases lastI_in (p := fun n => decide (g 25 n = sc ∧ g 26 n = nm)) h.2.2.2.1.1 with a | a
  · exact Or.inl a
  · exact Or.inr ⟨a.1, a.2.1⟩
section M4
variable {E : Ev} {am : Nat} {B : Nat → Nat} {h0 h : AH} {g : MG} {Q : Value → AH → Prop} {X : Nat → AH → Prop}
theorem c_pathE (hB : MB am B) {v1 v2 v3 : Option Value} (hI : PI g) (hf : g 20 0 ≠ -9) (K : Q (vI 0) (mkM am B h0 g)) : V E mX7_readsPath 5 0 3 [some (.ref am), v1, v2, v3] [] (mkM am B h0 g) Q X := by
  obtain ⟨hr_g, h2, h3, h4, h5, h6⟩ := hI
  refine V_aload_n dX7_readsPath_3 rfl ?_
  refine VM_getiE 20 (g 20 0) dX7_readsPath_4 q2626 (by decide) rfl rfl ?_
  refine V_bipush dX7_readsPath_7 (by decide) ?_
  refine V_icmp_ne 111 dX7_readsPath_9 (by decide) (by first | omega | exact hr_g _ _ | decide) (by first | omega | exact hr_g _ _ | decide) (fun c_9 => ?_) (fun c_9 => by exfalso; omega)
  refine V_iconst dX7_readsPath_111 ?_
  exact V_iret dX7_readsPath_112 rfl (by exact K)
theorem c_path91 (hB : MB am B) {sc inn : Int} {v2 : Option Value} (hI : PI g) (hf : g 20 0 ≠ -9) (K : Q (vI 0) (mkM am B h0 g)) : V E mX7_readsPath 5 0 91 [some (.ref am), some (vI sc), v2, some (vI inn)] [] (mkM am B h0 g) Q X := by
  obtain ⟨hr_g, h2, h3, h4, h5, h6⟩ := hI
  refine V_iload_n dX7_readsPath_91 rfl ?_
  refine V_istore_n dX7_readsPath_92 (by decide) ?_
  refine V_aload_n dX7_readsPath_93 rfl ?_
  refine V_iconst dX7_readsPath_94 ?_
  refine VM_v1 (M' := mX7_passes) okX7_passes rfl dX7_readsPath_95 q2800 rfl rfl (Nat.le_of_ble_eq_true rfl) (d' := 4) (b1 := 0) (by decide) (by decide) (c_X7_passesB hB hr_g (by first | omega | exact hr_g _ _ | decide) (by first | omega | (simp [gup, aup]; omega)) ?_)
  refine V_aload_n dX7_readsPath_98 rfl ?_
  refine V_aload_n dX7_readsPath_99 rfl ?_
  refine V_bipush dX7_readsPath_100 (by decide) ?_
  refine VM_c1 (M' := mX7_is) okX7_is rfl dX7_readsPath_102 q2788 rfl rfl (Nat.le_of_ble_eq_true rfl) (d' := 1) (b1 := 0) (by decide) (by decide) (c_X7_is hB hr_g (by first | omega | exact hr_g _ _ | decide) (fun c_102 => ?_) (fun c_102 => ?_))
  · refine VM_v1 (M' := mX7_passes) okX7_passes rfl dX7_readsPath_105 q2800 rfl rfl (Nat.le_of_ble_eq_true rfl) (d' := 4) (b1 := 0) (by decide) (by decide) (c_X7_passesB hB hr_g (by first | omega | exact hr_g _ _ | decide) (by first | omega | (simp [gup, aup]; omega)) ?_)
    refine V_goto 3 dX7_readsPath_108 (by decide) ?_
    refine V_aload_n dX7_readsPath_3 rfl ?_
    refine VM_getiE 20 (g 20 0) dX7_readsPath_4 q2626 (by decide) rfl rfl ?_
    refine V_bipush dX7_readsPath_7 (by decide) ?_
    refine V_icmp_ne 111 dX7_readsPath_9 (by decide) (by first | omega | exact hr_g _ _ | decide) (by first | omega | exact hr_g _ _ | decide) (fun c_9 => ?_) (fun c_9 => by exfalso; omega)
    refine V_iconst dX7_readsPath_111 ?_
    exact V_iret dX7_readsPath_112 rfl (by exact K)
  · refine VM_v1 (M' := mX7_passes) okX7_passes rfl dX7_readsPath_105 q2800 rfl rfl (Nat.le_of_ble_eq_true rfl) (d' := 4) (b1 := 0) (by decide) (by decide) (c_X7_passesB hB hr_g (by first | omega | exact hr_g _ _ | decide) (by first | omega | (simp [gup, aup]; omega)) ?_)
    refine V_goto 3 dX7_readsPath_108 (by decide) ?_
    refine V_aload_n dX7_readsPath_3 rfl ?_
    refine VM_getiE 20 (g 20 0) dX7_readsPath_4 q2626 (by decide) rfl rfl ?_
    refine V_bipush dX7_readsPath_7 (by decide) ?_
    refine V_icmp_ne 111 dX7_readsPath_9 (by decide) (by first | omega | exact hr_g _ _ | decide) (by first | omega | exact hr_g _ _ | decide) (fun c_9 => ?_) (fun c_9 => by exfalso; omega)
    refine V_iconst dX7_readsPath_111 ?_
    exact V_iret dX7_readsPath_112 rfl (by exact K)
theorem c_path70 (hB : MB am B) {sc nd inn : Int} (hI : PI g) (hf : g 20 0 ≠ -9) (K : Q (vI 0) (mkM am B h0 g)) : V E mX7_readsPath 5 0 70 [some (.ref am), some (vI sc), some (vI nd), some (vI inn)] [] (mkM am B h0 g) Q X := by
  have hI' := hI
  obtain ⟨hr_g, h2, h3, h4, h5, h6⟩ := hI
  refine V_aload_n dX7_readsPath_70 rfl ?_
  refine VM_getiE 20 (g 20 0) dX7_readsPath_71 q2626 (by decide) rfl rfl ?_
  refine V_bipush dX7_readsPath_74 (by decide) ?_
  refine V_icmp_ne 91 dX7_readsPath_76 (by decide) (by first | omega | exact hr_g _ _ | decide) (by first | omega | exact hr_g _ _ | decide) (fun c_76 => ?_) (fun c_76 => by exfalso; omega)
  exact c_path91 hB hI' hf K
theorem c_path29 (hB : MB am B) {sc : Int} {v2 v3 : Option Value} (hs : inr sc) (hI : PI g) (hf : g 20 0 ≠ -9) (K : Q (vI 0) (mkM am B h0 g)) : V E mX7_readsPath 5 0 29 [some (.ref am), some (vI sc), v2, v3] [] (mkM am B h0 g) Q X := by
  have hI' := hI
  obtain ⟨hr_g, h2, h3, h4, h5, h6⟩ := hI
  have i1 := nNB_i hI' sc (g 19 0)
  have i2 := nSB_i hI' sc (g 19 0)
  refine V_aload_n dX7_readsPath_29 rfl ?_
  refine V_iload_n dX7_readsPath_30 rfl ?_
  refine V_aload_n dX7_readsPath_31 rfl ?_
  refine VM_getiE 19 (g 19 0) dX7_readsPath_32 q2625 (by decide) rfl rfl ?_
  refine VM_c2 (M' := mX7_newNodeBy) okX7_newNodeBy rfl dX7_readsPath_35 q2804 rfl rfl (Nat.le_of_ble_eq_true rfl) (d' := 2) (b1 := 0) (by decide) (by decide) (c_X7_newNodeBy hB hr_g (by first | omega | exact hr_g _ _ | decide) (by first | omega | exact hr_g _ _ | decide) (by first | omega | (simp [gup, aup]; omega)) ?_)
  refine V_istore_n dX7_readsPath_38 (by decide) ?_
  refine V_aload_n dX7_readsPath_39 rfl ?_
  refine V_iload_n dX7_readsPath_40 rfl ?_
  refine V_aload_n dX7_readsPath_41 rfl ?_
  refine VM_getiE 19 (g 19 0) dX7_readsPath_42 q2625 (by decide) rfl rfl ?_
  refine VM_c2 (M' := mX7_newScopeBy) okX7_newScopeBy rfl dX7_readsPath_45 q2808 rfl rfl (Nat.le_of_ble_eq_true rfl) (d' := 2) (b1 := 0) (by decide) (by decide) (c_X7_newScopeBy hB hr_g (by first | omega | exact hr_g _ _ | decide) (by first | omega | exact hr_g _ _ | decide) (by first | omega | (simp [gup, aup]; omega)) ?_)
  refine V_istore_n dX7_readsPath_48 (by decide) ?_
  refine V_aload_n dX7_readsPath_49 rfl ?_
  refine V_iload_n dX7_readsPath_50 rfl ?_
  refine V_bipush dX7_readsPath_51 (by decide) ?_
  refine V_icmp_ne 62 dX7_readsPath_53 (by decide) (by first | omega | exact hr_g _ _ | decide) (by first | omega | exact hr_g _ _ | decide) (fun c_53 => ?_) (fun c_53 => ?_)
  · refine V_iconst dX7_readsPath_62 ?_
    refine V_goto 67 dX7_readsPath_63 (by decide) ?_
    refine VM_v1 (M' := mX7_due) okX7_due rfl dX7_readsPath_67 q2796 rfl rfl (Nat.le_of_ble_eq_true rfl) (d' := 1) (b1 := 0) (by decide) (by decide) (c_X7_dueB hB hr_g (by first | omega | exact hr_g _ _ | decide) (by first | omega | (simp [gup, aup]; omega)) ?_)
    exact c_path70 hB hI' hf K
  · refine V_iload_n dX7_readsPath_56 rfl ?_
    refine V_bipush dX7_readsPath_57 (by decide) ?_
    refine V_icmp_eq 66 dX7_readsPath_59 (by decide) (by first | omega | exact hr_g _ _ | decide) (by first | omega | exact hr_g _ _ | decide) (fun c_59 => ?_) (fun c_59 => ?_)
    · refine V_iconst dX7_readsPath_66 ?_
      refine VM_v1 (M' := mX7_due) okX7_due rfl dX7_readsPath_67 q2796 rfl rfl (Nat.le_of_ble_eq_true rfl) (d' := 1) (b1 := 0) (by decide) (by decide) (c_X7_dueB hB hr_g (by first | omega | exact hr_g _ _ | decide) (by first | omega | (simp [gup, aup]; omega)) ?_)
      exact c_path70 hB hI' hf K
    · refine V_iconst dX7_readsPath_62 ?_
      refine V_goto 67 dX7_readsPath_63 (by decide) ?_
      refine VM_v1 (M' := mX7_due) okX7_due rfl dX7_readsPath_67 q2796 rfl rfl (Nat.le_of_ble_eq_true rfl) (d' := 1) (b1 := 0) (by decide) (by decide) (c_X7_dueB hB hr_g (by first | omega | exact hr_g _ _ | decide) (by first | omega | (simp [gup, aup]; omega)) ?_)
      exact c_path70 hB hI' hf K
theorem c_path3 (hB : MB am B) : ∀ (k : Nat) (g : MG) (sc : Int) (v2 v3 : Option Value), PI g → g 20 0 = -9 → g 15 0 - g 16 0 < k → inr sc → Q (vI (pPathN k g sc).2) (mkM am B h0 (pPathN k g sc).1) → V E mX7_readsPath 5 0 3 [some (.ref am), some (vI sc), v2, v3] [] (mkM am B h0 g) Q X := by
  intro k
  induction k with
  | zero =>
    intro g sc v2 v3 hI hf hk
    have := hI.2.1
    omega
  | succ k ih =>
    intro g sc v2 v3 hI hf hk hs K
    have hI' := hI
    obtain ⟨hr_g, h2, h3, h4, h5, h6⟩ := hI
    have i1 := nNB_i hI' sc (g 19 0)
    have i2 := nSB_i hI' sc (g 19 0)
    unfold pPathN at K
    by_cases c1 : g 18 0 = 1 ∧ (nNB g sc (g 19 0) ≠ -9 ∨ nSB g sc (g 19 0) ≠ -9)
    · rw [pIf_f (fun h9 => h9 c1)] at K
      by_cases c2 : nNB g sc (g 19 0) ≠ -9
      · rw [pIf_t c2] at K
        refine V_aload_n dX7_readsPath_3 rfl ?_
        refine VM_getiE 20 (g 20 0) dX7_readsPath_4 q2626 (by decide) rfl rfl ?_
        refine V_bipush dX7_readsPath_7 (by decide) ?_
        refine V_icmp_ne 111 dX7_readsPath_9 (by decide) (by first | omega | exact hr_g _ _ | decide) (by first | omega | exact hr_g _ _ | decide) (fun c_9 => by exfalso; omega) (fun c_9 => ?_)
        refine V_aload_n dX7_readsPath_12 rfl ?_
        refine V_aload_n dX7_readsPath_13 rfl ?_
        refine VM_getiE 18 (g 18 0) dX7_readsPath_14 q2624 (by decide) rfl rfl ?_
        refine V_iconst dX7_readsPath_17 ?_
        refine V_icmp_ne 25 dX7_readsPath_18 (by decide) (by first | omega | exact hr_g _ _ | decide) (by first | omega | exact hr_g _ _ | decide) (fun c_18 => by exfalso; omega) (fun c_18 => ?_)
        refine V_iconst dX7_readsPath_21 ?_
        refine V_goto 26 dX7_readsPath_22 (by decide) ?_
        refine VM_v1 (M' := mX7_due) okX7_due rfl dX7_readsPath_26 q2796 rfl rfl (Nat.le_of_ble_eq_true rfl) (d' := 1) (b1 := 0) (by decide) (by decide) (c_X7_due1 hB hr_g ?_)
        refine V_aload_n dX7_readsPath_29 rfl ?_
        refine V_iload_n dX7_readsPath_30 rfl ?_
        refine V_aload_n dX7_readsPath_31 rfl ?_
        refine VM_getiE 19 (g 19 0) dX7_readsPath_32 q2625 (by decide) rfl rfl ?_
        refine VM_c2 (M' := mX7_newNodeBy) okX7_newNodeBy rfl dX7_readsPath_35 q2804 rfl rfl (Nat.le_of_ble_eq_true rfl) (d' := 2) (b1 := 0) (by decide) (by decide) (c_X7_newNodeBy hB hr_g (by first | omega | exact hr_g _ _ | decide) (by first | omega | exact hr_g _ _ | decide) (by first | omega | (simp [gup, aup]; omega)) ?_)
        refine V_istore_n dX7_readsPath_38 (by decide) ?_
        refine V_aload_n dX7_readsPath_39 rfl ?_
        refine V_iload_n dX7_readsPath_40 rfl ?_
        refine V_aload_n dX7_readsPath_41 rfl ?_
        refine VM_getiE 19 (g 19 0) dX7_readsPath_42 q2625 (by decide) rfl rfl ?_
        refine VM_c2 (M' := mX7_newScopeBy) okX7_newScopeBy rfl dX7_readsPath_45 q2808 rfl rfl (Nat.le_of_ble_eq_true rfl) (d' := 2) (b1 := 0) (by decide) (by decide) (c_X7_newScopeBy hB hr_g (by first | omega | exact hr_g _ _ | decide) (by first | omega | exact hr_g _ _ | decide) (by first | omega | (simp [gup, aup]; omega)) ?_)
        refine V_istore_n dX7_readsPath_48 (by decide) ?_
        refine V_aload_n dX7_readsPath_49 rfl ?_
        refine V_iload_n dX7_readsPath_50 rfl ?_
        refine V_bipush dX7_readsPath_51 (by decide) ?_
        refine V_icmp_ne 62 dX7_readsPath_53 (by decide) (by first | omega | exact hr_g _ _ | decide) (by first | omega | exact hr_g _ _ | decide) (fun c_53 => ?_) (fun c_53 => by exfalso; omega)
        refine V_iconst dX7_readsPath_62 ?_
        refine V_goto 67 dX7_readsPath_63 (by decide) ?_
        refine VM_v1 (M' := mX7_due) okX7_due rfl dX7_readsPath_67 q2796 rfl rfl (Nat.le_of_ble_eq_true rfl) (d' := 1) (b1 := 0) (by decide) (by decide) (c_X7_due1 hB hr_g ?_)
        refine V_aload_n dX7_readsPath_70 rfl ?_
        refine VM_getiE 20 (g 20 0) dX7_readsPath_71 q2626 (by decide) rfl rfl ?_
        refine V_bipush dX7_readsPath_74 (by decide) ?_
        refine V_icmp_ne 91 dX7_readsPath_76 (by decide) (by first | omega | exact hr_g _ _ | decide) (by first | omega | exact hr_g _ _ | decide) (fun c_76 => by exfalso; omega) (fun c_76 => ?_)
        refine V_iload_n dX7_readsPath_79 rfl ?_
        refine V_bipush dX7_readsPath_80 (by decide) ?_
        refine V_icmp_eq 91 dX7_readsPath_82 (by decide) (by first | omega | exact hr_g _ _ | decide) (by first | omega | exact hr_g _ _ | decide) (fun c_82 => by exfalso; omega) (fun c_82 => ?_)
        refine V_aload_n dX7_readsPath_85 rfl ?_
        refine VM_v0 (M' := mX7_next) okX7_next rfl dX7_readsPath_86 q2773 rfl rfl (Nat.le_of_ble_eq_true rfl) (d' := 3) (b1 := 0) (by decide) (by decide) (c_X7_next hB hr_g (by first | omega | (simp [gup, aup]; omega)) ?_)
        refine V_iload_n dX7_readsPath_89 rfl ?_
        exact V_iret dX7_readsPath_90 rfl (by exact K)
      · rw [pIf_f c2] at K
        have e20 : pNext g 20 0 = -9 := by rw [pN_ne (by omega)]; exact hf
        have hn := hI'.next
        have hn2 := hn.2.1
        have hn5 := hn.2.2.2.2.1
        by_cases c3 : pNext g 18 0 = 3 ∧ pNext g 19 0 = 46
        · rw [pIf_f (fun h9 => h9 c3)] at K
          have l1 := pN_lt hI' (by omega)
          have l2 := pN_le hn
          have e15 : pNext (pNext g) 15 0 = g 15 0 := by rw [pN_ne (by omega), pN_ne (by omega)]
          refine V_aload_n dX7_readsPath_3 rfl ?_
          refine VM_getiE 20 (g 20 0) dX7_readsPath_4 q2626 (by decide) rfl rfl ?_
          refine V_bipush dX7_readsPath_7 (by decide) ?_
          refine V_icmp_ne 111 dX7_readsPath_9 (by decide) (by first | omega | exact hr_g _ _ | decide) (by first | omega | exact hr_g _ _ | decide) (fun c_9 => by exfalso; omega) (fun c_9 => ?_)
          refine V_aload_n dX7_readsPath_12 rfl ?_
          refine V_aload_n dX7_readsPath_13 rfl ?_
          refine VM_getiE 18 (g 18 0) dX7_readsPath_14 q2624 (by decide) rfl rfl ?_
          refine V_iconst dX7_readsPath_17 ?_
          refine V_icmp_ne 25 dX7_readsPath_18 (by decide) (by first | omega | exact hr_g _ _ | decide) (by first | omega | exact hr_g _ _ | decide) (fun c_18 => by exfalso; omega) (fun c_18 => ?_)
          refine V_iconst dX7_readsPath_21 ?_
          refine V_goto 26 dX7_readsPath_22 (by decide) ?_
          refine VM_v1 (M' := mX7_due) okX7_due rfl dX7_readsPath_26 q2796 rfl rfl (Nat.le_of_ble_eq_true rfl) (d' := 1) (b1 := 0) (by decide) (by decide) (c_X7_due1 hB hr_g ?_)
          refine V_aload_n dX7_readsPath_29 rfl ?_
          refine V_iload_n dX7_readsPath_30 rfl ?_
          refine V_aload_n dX7_readsPath_31 rfl ?_
          refine VM_getiE 19 (g 19 0) dX7_readsPath_32 q2625 (by decide) rfl rfl ?_
          refine VM_c2 (M' := mX7_newNodeBy) okX7_newNodeBy rfl dX7_readsPath_35 q2804 rfl rfl (Nat.le_of_ble_eq_true rfl) (d' := 2) (b1 := 0) (by decide) (by decide) (c_X7_newNodeBy hB hr_g (by first | omega | exact hr_g _ _ | decide) (by first | omega | exact hr_g _ _ | decide) (by first | omega | (simp [gup, aup]; omega)) ?_)
          refine V_istore_n dX7_readsPath_38 (by decide) ?_
          refine V_aload_n dX7_readsPath_39 rfl ?_
          refine V_iload_n dX7_readsPath_40 rfl ?_
          refine V_aload_n dX7_readsPath_41 rfl ?_
          refine VM_getiE 19 (g 19 0) dX7_readsPath_42 q2625 (by decide) rfl rfl ?_
          refine VM_c2 (M' := mX7_newScopeBy) okX7_newScopeBy rfl dX7_readsPath_45 q2808 rfl rfl (Nat.le_of_ble_eq_true rfl) (d' := 2) (b1 := 0) (by decide) (by decide) (c_X7_newScopeBy hB hr_g (by first | omega | exact hr_g _ _ | decide) (by first | omega | exact hr_g _ _ | decide) (by first | omega | (simp [gup, aup]; omega)) ?_)
          refine V_istore_n dX7_readsPath_48 (by decide) ?_
          refine V_aload_n dX7_readsPath_49 rfl ?_
          refine V_iload_n dX7_readsPath_50 rfl ?_
          refine V_bipush dX7_readsPath_51 (by decide) ?_
          refine V_icmp_ne 62 dX7_readsPath_53 (by decide) (by first | omega | exact hr_g _ _ | decide) (by first | omega | exact hr_g _ _ | decide) (fun c_53 => by exfalso; omega) (fun c_53 => ?_)
          refine V_iload_n dX7_readsPath_56 rfl ?_
          refine V_bipush dX7_readsPath_57 (by decide) ?_
          refine V_icmp_eq 66 dX7_readsPath_59 (by decide) (by first | omega | exact hr_g _ _ | decide) (by first | omega | exact hr_g _ _ | decide) (fun c_59 => by exfalso; omega) (fun c_59 => ?_)
          refine V_iconst dX7_readsPath_62 ?_
          refine V_goto 67 dX7_readsPath_63 (by decide) ?_
          refine VM_v1 (M' := mX7_due) okX7_due rfl dX7_readsPath_67 q2796 rfl rfl (Nat.le_of_ble_eq_true rfl) (d' := 1) (b1 := 0) (by decide) (by decide) (c_X7_due1 hB hr_g ?_)
          refine V_aload_n dX7_readsPath_70 rfl ?_
          refine VM_getiE 20 (g 20 0) dX7_readsPath_71 q2626 (by decide) rfl rfl ?_
          refine V_bipush dX7_readsPath_74 (by decide) ?_
          refine V_icmp_ne 91 dX7_readsPath_76 (by decide) (by first | omega | exact hr_g _ _ | decide) (by first | omega | exact hr_g _ _ | decide) (fun c_76 => by exfalso; omega) (fun c_76 => ?_)
          refine V_iload_n dX7_readsPath_79 rfl ?_
          refine V_bipush dX7_readsPath_80 (by decide) ?_
          refine V_icmp_eq 91 dX7_readsPath_82 (by decide) (by first | omega | exact hr_g _ _ | decide) (by first | omega | exact hr_g _ _ | decide) (fun c_82 => ?_) (fun c_82 => by exfalso; omega)
          refine V_iload_n dX7_readsPath_91 rfl ?_
          refine V_istore_n dX7_readsPath_92 (by decide) ?_
          refine V_aload_n dX7_readsPath_93 rfl ?_
          refine V_iconst dX7_readsPath_94 ?_
          refine VM_v1 (M' := mX7_passes) okX7_passes rfl dX7_readsPath_95 q2800 rfl rfl (Nat.le_of_ble_eq_true rfl) (d' := 4) (b1 := 0) (by decide) (by decide) (c_X7_passes1 hB hr_g (by first | omega | (simp [gup, aup]; omega)) (by first | omega | (simp [gup, aup]; omega)) ?_)
          refine V_aload_n dX7_readsPath_98 rfl ?_
          refine V_aload_n dX7_readsPath_99 rfl ?_
          refine V_bipush dX7_readsPath_100 (by decide) ?_
          refine VM_c1 (M' := mX7_is) okX7_is rfl dX7_readsPath_102 q2788 rfl rfl (Nat.le_of_ble_eq_true rfl) (d' := 1) (b1 := 0) (by decide) (by decide) (c_X7_is hB (rng_pNext hr_g (by first | omega | (simp [gup, aup]; omega))) (by first | omega | exact hr_g _ _ | decide) (fun _ => ?_) (fun c_102 => absurd c3 c_102))
          refine VM_v1 (M' := mX7_passes) okX7_passes rfl dX7_readsPath_105 q2800 rfl rfl (Nat.le_of_ble_eq_true rfl) (d' := 4) (b1 := 0) (by decide) (by decide) (c_X7_passes1 hB (rng_pNext hr_g (by first | omega | (simp [gup, aup]; omega))) (by first | omega | (simp [gup, aup]; omega)) (by first | omega | (simp [gup, aup]; omega)) ?_)
          refine V_goto 3 dX7_readsPath_108 (by decide) ?_
          exact ih _ _ _ _ hn.next (by rw [pN_ne (by omega)]; exact e20) (by omega) i2 K
        · rw [pIf_t c3] at K
          refine V_aload_n dX7_readsPath_3 rfl ?_
          refine VM_getiE 20 (g 20 0) dX7_readsPath_4 q2626 (by decide) rfl rfl ?_
          refine V_bipush dX7_readsPath_7 (by decide) ?_
          refine V_icmp_ne 111 dX7_readsPath_9 (by decide) (by first | omega | exact hr_g _ _ | decide) (by first | omega | exact hr_g _ _ | decide) (fun c_9 => by exfalso; omega) (fun c_9 => ?_)
          refine V_aload_n dX7_readsPath_12 rfl ?_
          refine V_aload_n dX7_readsPath_13 rfl ?_
          refine VM_getiE 18 (g 18 0) dX7_readsPath_14 q2624 (by decide) rfl rfl ?_
          refine V_iconst dX7_readsPath_17 ?_
          refine V_icmp_ne 25 dX7_readsPath_18 (by decide) (by first | omega | exact hr_g _ _ | decide) (by first | omega | exact hr_g _ _ | decide) (fun c_18 => by exfalso; omega) (fun c_18 => ?_)
          refine V_iconst dX7_readsPath_21 ?_
          refine V_goto 26 dX7_readsPath_22 (by decide) ?_
          refine VM_v1 (M' := mX7_due) okX7_due rfl dX7_readsPath_26 q2796 rfl rfl (Nat.le_of_ble_eq_true rfl) (d' := 1) (b1 := 0) (by decide) (by decide) (c_X7_due1 hB hr_g ?_)
          refine V_aload_n dX7_readsPath_29 rfl ?_
          refine V_iload_n dX7_readsPath_30 rfl ?_
          refine V_aload_n dX7_readsPath_31 rfl ?_
          refine VM_getiE 19 (g 19 0) dX7_readsPath_32 q2625 (by decide) rfl rfl ?_
          refine VM_c2 (M' := mX7_newNodeBy) okX7_newNodeBy rfl dX7_readsPath_35 q2804 rfl rfl (Nat.le_of_ble_eq_true rfl) (d' := 2) (b1 := 0) (by decide) (by decide) (c_X7_newNodeBy hB hr_g (by first | omega | exact hr_g _ _ | decide) (by first | omega | exact hr_g _ _ | decide) (by first | omega | (simp [gup, aup]; omega)) ?_)
          refine V_istore_n dX7_readsPath_38 (by decide) ?_
          refine V_aload_n dX7_readsPath_39 rfl ?_
          refine V_iload_n dX7_readsPath_40 rfl ?_
          refine V_aload_n dX7_readsPath_41 rfl ?_
          refine VM_getiE 19 (g 19 0) dX7_readsPath_42 q2625 (by decide) rfl rfl ?_
          refine VM_c2 (M' := mX7_newScopeBy) okX7_newScopeBy rfl dX7_readsPath_45 q2808 rfl rfl (Nat.le_of_ble_eq_true rfl) (d' := 2) (b1 := 0) (by decide) (by decide) (c_X7_newScopeBy hB hr_g (by first | omega | exact hr_g _ _ | decide) (by first | omega | exact hr_g _ _ | decide) (by first | omega | (simp [gup, aup]; omega)) ?_)
          refine V_istore_n dX7_readsPath_48 (by decide) ?_
          refine V_aload_n dX7_readsPath_49 rfl ?_
          refine V_iload_n dX7_readsPath_50 rfl ?_
          refine V_bipush dX7_readsPath_51 (by decide) ?_
          refine V_icmp_ne 62 dX7_readsPath_53 (by decide) (by first | omega | exact hr_g _ _ | decide) (by first | omega | exact hr_g _ _ | decide) (fun c_53 => by exfalso; omega) (fun c_53 => ?_)
          refine V_iload_n dX7_readsPath_56 rfl ?_
          refine V_bipush dX7_readsPath_57 (by decide) ?_
          refine V_icmp_eq 66 dX7_readsPath_59 (by decide) (by first | omega | exact hr_g _ _ | decide) (by first | omega | exact hr_g _ _ | decide) (fun c_59 => by exfalso; omega) (fun c_59 => ?_)
          refine V_iconst dX7_readsPath_62 ?_
          refine V_goto 67 dX7_readsPath_63 (by decide) ?_
          refine VM_v1 (M' := mX7_due) okX7_due rfl dX7_readsPath_67 q2796 rfl rfl (Nat.le_of_ble_eq_true rfl) (d' := 1) (b1 := 0) (by decide) (by decide) (c_X7_due1 hB hr_g ?_)
          refine V_aload_n dX7_readsPath_70 rfl ?_
          refine VM_getiE 20 (g 20 0) dX7_readsPath_71 q2626 (by decide) rfl rfl ?_
          refine V_bipush dX7_readsPath_74 (by decide) ?_
          refine V_icmp_ne 91 dX7_readsPath_76 (by decide) (by first | omega | exact hr_g _ _ | decide) (by first | omega | exact hr_g _ _ | decide) (fun c_76 => by exfalso; omega) (fun c_76 => ?_)
          refine V_iload_n dX7_readsPath_79 rfl ?_
          refine V_bipush dX7_readsPath_80 (by decide) ?_
          refine V_icmp_eq 91 dX7_readsPath_82 (by decide) (by first | omega | exact hr_g _ _ | decide) (by first | omega | exact hr_g _ _ | decide) (fun c_82 => ?_) (fun c_82 => by exfalso; omega)
          refine V_iload_n dX7_readsPath_91 rfl ?_
          refine V_istore_n dX7_readsPath_92 (by decide) ?_
          refine V_aload_n dX7_readsPath_93 rfl ?_
          refine V_iconst dX7_readsPath_94 ?_
          refine VM_v1 (M' := mX7_passes) okX7_passes rfl dX7_readsPath_95 q2800 rfl rfl (Nat.le_of_ble_eq_true rfl) (d' := 4) (b1 := 0) (by decide) (by decide) (c_X7_passes1 hB hr_g (by first | omega | (simp [gup, aup]; omega)) (by first | omega | (simp [gup, aup]; omega)) ?_)
          refine V_aload_n dX7_readsPath_98 rfl ?_
          refine V_aload_n dX7_readsPath_99 rfl ?_
          refine V_bipush dX7_readsPath_100 (by decide) ?_
          refine VM_c1 (M' := mX7_is) okX7_is rfl dX7_readsPath_102 q2788 rfl rfl (Nat.le_of_ble_eq_true rfl) (d' := 1) (b1 := 0) (by decide) (by decide) (c_X7_is hB (rng_pNext hr_g (by first | omega | (simp [gup, aup]; omega))) (by first | omega | exact hr_g _ _ | decide) (fun c_102 => absurd c_102 c3) (fun _ => ?_))
          refine VM_v1 (M' := mX7_passes) okX7_passes rfl dX7_readsPath_105 q2800 rfl rfl (Nat.le_of_ble_eq_true rfl) (d' := 4) (b1 := 0) (by decide) (by decide) (c_X7_passes0 hB (rng_pNext hr_g (by first | omega | (simp [gup, aup]; omega))) (by first | omega | (simp [gup, aup]; omega)) (by first | omega | (simp [gup, aup]; omega)) ?_)
          exact V_goto 3 dX7_readsPath_108 (by decide) (c_pathE hB hn.fault (by simp [pFault, gup, aup]; omega) K)
          skip
    · rw [pIf_t c1] at K
      refine V_aload_n dX7_readsPath_3 rfl ?_
      refine VM_getiE 20 (g 20 0) dX7_readsPath_4 q2626 (by decide) rfl rfl ?_
      refine V_bipush dX7_readsPath_7 (by decide) ?_
      refine V_icmp_ne 111 dX7_readsPath_9 (by decide) (by first | omega | exact hr_g _ _ | decide) (by first | omega | exact hr_g _ _ | decide) (fun c_9 => by exfalso; omega) (fun c_9 => ?_)
      refine V_aload_n dX7_readsPath_12 rfl ?_
      refine V_aload_n dX7_readsPath_13 rfl ?_
      refine VM_getiE 18 (g 18 0) dX7_readsPath_14 q2624 (by decide) rfl rfl ?_
      refine V_iconst dX7_readsPath_17 ?_
      refine V_icmp_ne 25 dX7_readsPath_18 (by decide) (by first | omega | exact hr_g _ _ | decide) (by first | omega | exact hr_g _ _ | decide) (fun c_18 => ?_) (fun c_18 => ?_)
      · refine V_iconst dX7_readsPath_25 ?_
        refine VM_v1 (M' := mX7_due) okX7_due rfl dX7_readsPath_26 q2796 rfl rfl (Nat.le_of_ble_eq_true rfl) (d' := 1) (b1 := 0) (by decide) (by decide) (c_X7_due0 hB hr_g (by first | omega | (simp [gup, aup]; omega)) ?_)
        exact c_path29 hB hs hI'.fault (by simp [pFault, gup, aup]; omega) K
      · refine V_iconst dX7_readsPath_21 ?_
        refine V_goto 26 dX7_readsPath_22 (by decide) ?_
        refine VM_v1 (M' := mX7_due) okX7_due rfl dX7_readsPath_26 q2796 rfl rfl (Nat.le_of_ble_eq_true rfl) (d' := 1) (b1 := 0) (by decide) (by decide) (c_X7_due1 hB hr_g ?_)
        refine V_aload_n dX7_readsPath_29 rfl ?_
        refine V_iload_n dX7_readsPath_30 rfl ?_
        refine V_aload_n dX7_readsPath_31 rfl ?_
        refine VM_getiE 19 (g 19 0) dX7_readsPath_32 q2625 (by decide) rfl rfl ?_
        refine VM_c2 (M' := mX7_newNodeBy) okX7_newNodeBy rfl dX7_readsPath_35 q2804 rfl rfl (Nat.le_of_ble_eq_true rfl) (d' := 2) (b1 := 0) (by decide) (by decide) (c_X7_newNodeBy hB hr_g (by first | omega | exact hr_g _ _ | decide) (by first | omega | exact hr_g _ _ | decide) (by first | omega | (simp [gup, aup]; omega)) ?_)
        refine V_istore_n dX7_readsPath_38 (by decide) ?_
        refine V_aload_n dX7_readsPath_39 rfl ?_
        refine V_iload_n dX7_readsPath_40 rfl ?_
        refine V_aload_n dX7_readsPath_41 rfl ?_
        refine VM_getiE 19 (g 19 0) dX7_readsPath_42 q2625 (by decide) rfl rfl ?_
        refine VM_c2 (M' := mX7_newScopeBy) okX7_newScopeBy rfl dX7_readsPath_45 q2808 rfl rfl (Nat.le_of_ble_eq_true rfl) (d' := 2) (b1 := 0) (by decide) (by decide) (c_X7_newScopeBy hB hr_g (by first | omega | exact hr_g _ _ | decide) (by first | omega | exact hr_g _ _ | decide) (by first | omega | (simp [gup, aup]; omega)) ?_)
        refine V_istore_n dX7_readsPath_48 (by decide) ?_
        refine V_aload_n dX7_readsPath_49 rfl ?_
        refine V_iload_n dX7_readsPath_50 rfl ?_
        refine V_bipush dX7_readsPath_51 (by decide) ?_
        refine V_icmp_ne 62 dX7_readsPath_53 (by decide) (by first | omega | exact hr_g _ _ | decide) (by first | omega | exact hr_g _ _ | decide) (fun c_53 => ?_) (fun c_53 => ?_)
        · refine V_iconst dX7_readsPath_62 ?_
          refine V_goto 67 dX7_readsPath_63 (by decide) ?_
          refine VM_v1 (M' := mX7_due) okX7_due rfl dX7_readsPath_67 q2796 rfl rfl (Nat.le_of_ble_eq_true rfl) (d' := 1) (b1 := 0) (by decide) (by decide) (c_X7_due1 hB hr_g ?_)
          first | exact absurd ⟨by omega, Or.inl (by omega)⟩ c1 | exact absurd ⟨by omega, Or.inr (by omega)⟩ c1
        · refine V_iload_n dX7_readsPath_56 rfl ?_
          refine V_bipush dX7_readsPath_57 (by decide) ?_
          refine V_icmp_eq 66 dX7_readsPath_59 (by decide) (by first | omega | exact hr_g _ _ | decide) (by first | omega | exact hr_g _ _ | decide) (fun c_59 => ?_) (fun c_59 => ?_)
          · refine V_iconst dX7_readsPath_66 ?_
            refine VM_v1 (M' := mX7_due) okX7_due rfl dX7_readsPath_67 q2796 rfl rfl (Nat.le_of_ble_eq_true rfl) (d' := 1) (b1 := 0) (by decide) (by decide) (c_X7_due0 hB hr_g (by first | omega | (simp [gup, aup]; omega)) ?_)
            exact c_path70 hB hI'.fault (by simp [pFault, gup, aup]; omega) K
          · refine V_iconst dX7_readsPath_62 ?_
            refine V_goto 67 dX7_readsPath_63 (by decide) ?_
            refine VM_v1 (M' := mX7_due) okX7_due rfl dX7_readsPath_67 q2796 rfl rfl (Nat.le_of_ble_eq_true rfl) (d' := 1) (b1 := 0) (by decide) (by decide) (c_X7_due1 hB hr_g ?_)
            first | exact absurd ⟨by omega, Or.inl (by omega)⟩ c1 | exact absurd ⟨by omega, Or.inr (by omega)⟩ c1
theorem c_X7_readsPath (hB : MB am B) (hI : PI g) (hf : g 20 0 = -9) (K : Q (vI (pPath g).2) (mkM am B h0 (pPath g).1)) : V E mX7_readsPath 5 0 0 [some (.ref am), none, none, none] [] (mkM am B h0 g) Q X := by
  have hI2 := hI.2.1
  refine V_bipush dX7_readsPath_0 (by decide) ?_
  refine V_istore_n dX7_readsPath_2 (by decide) ?_
  exact c_path3 hB 161 g (-9) none none hI hf (by omega) (by decide) K
end M4
