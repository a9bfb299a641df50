/-! THE REFERENCE'S METHODS, part 13: items, the whole text -/
theorem NI.add {g : MG} (h : NI g) (hn : g 22 0 < 12) {kd bi of nm wh dw dd : Int} (h1 : inr kd) (h2 : inr bi) (h3 : inr of) (h4 : inr nm) (h5 : inr wh) (h6 : 0 ≤ g 23 0 + dw ∧ g 23 0 + dw ≤ 6) (h7 : 0 ≤ g 24 0 + dd ∧ g 24 0 + dd ≤ 4) : NI (pAdd g kd bi of nm wh dw dd) := by
  obtain ⟨a1, a2, a3, a4, a5, a6⟩ := h
  exact ⟨a1.add hn h1 h2 h3 h4 h5 ⟨by omega, by omega⟩ ⟨by omega, by omega⟩, h6, h7, a4, a5, a6⟩
theorem pAdd_ne {g : MG} {kd bi of nm wh dw dd : Int} {j : Nat} (h : j ≠ 21 ∧ j ≠ 22 ∧ j ≠ 23 ∧ j ≠ 24) : pAdd g kd bi of nm wh dw dd j = g j := by
  obtain ⟨h1, h2, h3, h4⟩ := h
  unfold pAdd
  rw [gup_ne h4, gup_ne h3, gup_ne h2, gup_ne h1, gup_ne h1, gup_ne h1, gup_ne h1, gup_ne h1, gup_ne h1]
theorem NI.node2 {g : MG} (h : NI g) (hf : g 20 0 = -9) (hn : g 22 0 < 12) {nm : Int} (hnm : inr nm) : NI (pNode2 g nm) ∧ (pNode2 g nm 20 0 = -9 → Adv g (pNode2 g nm)) := by
  have hN := h.next
  have n20 : pNext g 20 0 = -9 := by rw [pN_ne (by omega)]; exact hf
  have n22 : pNext g 22 0 < 12 := by rw [pN_ne (by omega)]; exact hn
  have n23 : pNext g 23 = g 23 := pN_ne (by omega)
  have n24 : pNext g 24 = g 24 := pN_ne (by omega)
  have h23 := h.2.1
  have h24 := h.2.2.1
  unfold pNode2
  by_cases c1 : g 18 0 = 3 ∧ g 19 0 = 58
  · rw [pIf_t c1]
    by_cases c2 : ¬ g 23 0 < 6
    · rw [pIf_t c2]; exact ⟨h.fault, fun e => absurd e (fault_ne h.1)⟩
    · rw [pIf_f c2]
      have c2' := Classical.not_not.mp c2
      unfold pNodeW
      by_cases c3 : ¬ (pNext g 18 0 = 2 ∧ 1 ≤ pNext g 19 0 ∧ pNext g 19 0 ≤ 8)
      · rw [pIf_t c3]; exact ⟨hN.fault, fun e => absurd e (fault_ne hN.1)⟩
      · rw [pIf_f c3]
        have m22 : pNext (pNext g) 22 0 < 12 := by rw [pN_ne (by omega)]; exact n22
        have m23 : pNext (pNext g) 23 0 = g 23 0 := by rw [pN_ne (by omega), n23]
        have m24 : pNext (pNext g) 24 0 = g 24 0 := by rw [pN_ne (by omega), n24]
        refine ⟨hN.next.add m22 (by decide) (hN.1.1 _ _) (by decide) hnm (hN.1.1 _ _) (by omega) (by omega), fun _ => ?_⟩
        exact ((Adv.next hN.1).tr (pN_le h.1)).same (pAdd_ne (by omega)) (pAdd_ne (by omega))
  · rw [pIf_f c1]
    by_cases c2 : g 18 0 = 3 ∧ g 19 0 = 64
    · rw [pIf_t c2]
      unfold pNodeA
      have hP : PI (pPath (pNext g)).1 := PI.path _ _ _ hN.1
      have hin := path_in 161 (pNext g) (-9) hN.1
      have k22 := hN.1.2.2.1
      have hNI : NI (pPath (pNext g)).1 := hN.same hP (congrFun (pP_ne (by omega) _ _ _) 0) (congrFun (pP_ne (by omega) _ _ _) 0) (pP_ne (by omega) _ _ _) (pP_ne (by omega) _ _ _) (pP_ne (by omega) _ _ _) (pP_ne (by omega) _ _ _)
      have m22 : (pPath (pNext g)).1 22 0 < 12 := by rw [show (pPath (pNext g)).1 22 = _ from pP_ne (by omega) _ _ _]; exact n22
      have m23 : (pPath (pNext g)).1 23 0 = g 23 0 := by rw [show (pPath (pNext g)).1 23 = _ from pP_ne (by omega) _ _ _, n23]
      have m24 : (pPath (pNext g)).1 24 0 = g 24 0 := by rw [show (pPath (pNext g)).1 24 = _ from pP_ne (by omega) _ _ _, n24]
      by_cases c3 : (pPath (pNext g)).1 20 0 = -9
      · rw [pIf_t c3]
        change (pPath (pNext g)).2 = 0 ∨ (0 ≤ (pPath (pNext g)).2 ∧ (pPath (pNext g)).2 < pNext g 22 0) at hin
        refine ⟨hNI.add m22 (by decide) (by decide) ⟨by omega, by omega⟩ hnm (hN.1.1 _ _) (by omega) (by omega), fun _ => ?_⟩
        have := path_adv 161 (pNext g) (-9) hN.1 (by have := hN.1.2.1; omega) c3
        exact (this.tr (pN_le h.1)).same (pAdd_ne (by omega)) (pAdd_ne (by omega))
      · rw [pIf_f c3]; exact ⟨hNI, fun e => absurd e c3⟩
    · rw [pIf_f c2]
      by_cases c3 : ¬ (g 18 0 = 3 ∧ g 19 0 = 61 ∧ g 24 0 < 4)
      · rw [pIf_t c3]; exact ⟨h.fault, fun e => absurd e (fault_ne h.1)⟩
      · rw [pIf_f c3]
        have c3' := (Classical.not_not.mp c3).2.2
        unfold pNodeD
        have hd : 0 ≤ pNext g 24 0 ∧ pNext g 24 0 ≤ 3 := by rw [n24]; omega
        have hP : PI (pExpr (pNext g)) := PI.expr hN.1 hd n20
        have hNI : NI (pExpr (pNext g)) := hN.same hP (congrFun (pEx_ne (by omega) _) 0) (congrFun (pEx_ne (by omega) _) 0) (pEx_ne (by omega) _) (pEx_ne (by omega) _) (pEx_ne (by omega) _) (pEx_ne (by omega) _)
        have m22 : pExpr (pNext g) 22 0 < 12 := by rw [pEx_ne (by omega)]; exact n22
        have m23 : pExpr (pNext g) 23 0 = g 23 0 := by rw [pEx_ne (by omega), n23]
        have m24 : pExpr (pNext g) 24 0 = g 24 0 := by rw [pEx_ne (by omega), n24]
        by_cases c4 : pExpr (pNext g) 20 0 = -9
        · rw [pIf_t c4]
          refine ⟨hNI.add m22 (by decide) (by decide) (by decide) hnm (hN.1.1 _ _) (by omega) (by omega), fun _ => ?_⟩
          exact ((expr_adv hN.1 hd n20 c4).tr (pN_le h.1)).same (pAdd_ne (by omega)) (pAdd_ne (by omega))
        · rw [pIf_f c4]; exact ⟨hNI, fun e => absurd e c4⟩
theorem NI.node {g : MG} (h : NI g) (hf : g 20 0 = -9) : NI (pNode g) ∧ (pNode g 20 0 = -9 → Adv g (pNode g)) := by
  unfold pNode
  by_cases c : ¬ (g 22 0 < 12 ∧ nNB g (g 30 0) (g 19 0) = -9 ∧ nSB g (g 30 0) (g 19 0) = -9)
  · rw [pIf_t c]; exact ⟨h.fault, fun e => absurd e (fault_ne h.1)⟩
  · rw [pIf_f c]
    have c' := (Classical.not_not.mp c).1
    have := h.next.node2 (by rw [pN_ne (by omega)]; exact hf) (by rw [pN_ne (by omega)]; exact c') (h.1.1 19 0)
    exact ⟨this.1, fun e => (this.2 e).tr (pN_le h.1)⟩
theorem NI.item1 {g : MG} (h : NI g) (hf : g 20 0 = -9) : NI (pItem1 g) ∧ (pItem1 g 20 0 = -9 → Adv g (pItem1 g)) := by
  unfold pItem1
  by_cases c1 : g 18 0 = 3 ∧ g 19 0 = 91
  · rw [pIf_t c1]; exact h.opens
  · rw [pIf_f c1]
    by_cases c2 : g 18 0 = 3 ∧ g 19 0 = 93
    · rw [pIf_t c2]; exact h.closes
    · rw [pIf_f c2]
      by_cases c3 : g 18 0 = 1
      · rw [pIf_t c3]; exact h.node hf
      · rw [pIf_f c3]; exact ⟨h.fault, fun e => absurd e (fault_ne h.1)⟩
theorem NI.item {g : MG} (h : NI g) (hf : g 20 0 = -9) : NI (pItem g) ∧ (pItem g 20 0 = -9 → g 16 0 < pItem g 16 0) := by
  have h1 := h.item1 hf
  unfold pItem pItem2
  by_cases c1 : pItem1 g 20 0 = -9
  · rw [pIf_t c1]
    by_cases c2 : pItem1 g 18 0 = 3 ∧ pItem1 g 19 0 = 59
    · rw [pIf_t c2]
      have := (h1.2 c1).2 (by omega)
      have := pN_le h1.1.1
      exact ⟨h1.1.next, fun _ => by omega⟩
    · rw [pIf_f c2]; exact ⟨h1.1.fault, fun e => absurd e (fault_ne h1.1.1)⟩
  · rw [pIf_f c1]; exact ⟨h1.1, fun e => absurd e c1⟩
theorem pOpens_ne {g : MG} {j : Nat} (h : j < 16 ∨ 47 < j) : pOpens g j = g j := by
  unfold pOpens pOpens2 pIf
  repeat' split
  · exact pF_ne (by omega)
  · exact (pF_ne (by omega)).trans (pN_ne (by omega))
  · exact (pF_ne (by omega)).trans (pN_ne (by omega))
  · rw [pN_ne (by omega), gup_ne (by omega), gup_ne (by omega), gup_ne (by omega), gup_ne (by omega), gup_ne (by omega)]; exact pN_ne (by omega)
  · rw [pN_ne (by omega), gup_ne (by omega), gup_ne (by omega)]; exact pN_ne (by omega)
theorem pCloses_ne {g : MG} {j : Nat} (h : j < 16 ∨ 47 < j) : pCloses g j = g j := by
  unfold pCloses pIf
  split
  · exact pF_ne (by omega)
  · rw [pN_ne (by omega), gup_ne (by omega), gup_ne (by omega)]
theorem pNode_ne {g : MG} {j : Nat} (h : j < 16 ∨ 47 < j) : pNode g j = g j := by
  unfold pNode pNode2 pNodeW pNodeA pNodeD pIf
  have e1 : pNext g j = g j := pN_ne (by omega)
  have e2 : pNext (pNext g) j = g j := (pN_ne (by omega)).trans e1
  have e3 : (pPath (pNext (pNext g))).1 j = g j := (pP_ne (by omega) _ _ _).trans e2
  have e4 : pExpr (pNext (pNext g)) j = g j := (pEx_ne (by omega) _).trans e2
  repeat' split
  · exact pF_ne (by omega)
  · exact (pF_ne (by omega)).trans e1
  · exact (pF_ne (by omega)).trans e2
  · exact (pAdd_ne (by omega)).trans ((pN_ne (by omega)).trans e2)
  · exact (pAdd_ne (by omega)).trans e3
  · exact e3
  · exact (pF_ne (by omega)).trans e1
  · exact (pAdd_ne (by omega)).trans e4
  · exact e4
/-- an item leaves what isn't the reader's -/
theorem pItem_ne {g : MG} {j : Nat} (h : j < 16 ∨ 47 < j) : pItem g j = g j := by
  have e1 : pItem1 g j = g j := by
    unfold pItem1 pIf
    repeat' split
    · exact pOpens_ne h
    · exact pCloses_ne h
    · exact pNode_ne h
    · exact pF_ne (by omega)
  unfold pItem pItem2 pIf
  repeat' split
  · exact (pN_ne (by omega)).trans e1
  · exact (pF_ne (by omega)).trans e1
  · exact e1
/-- items from here on: what stands then, how many -/
noncomputable def pItems : Nat → MG → Int → MG × Int
  | 0, g, n => (g, n)
  | k + 1, g, n => pIf (g 20 0 = -9 ∧ g 18 0 ≠ 4) (pItems k (pItem g) (n + 1)) (g, n)
def pStart (g : MG) : MG := gup (gup (gup (gup (gup (gup (gup (gup g 16 0 0) 20 0 (-9)) 22 0 0) 23 0 0) 24 0 0) 27 0 0) 30 0 (-9)) 31 0 0
theorem pTake_r {g : MG} (h : Rng g) : Rng (pTake g) := pCp_r (pCp_r (pCp_r (pCp_r (pCp_r ((((h.up (h _ _)).up (h _ _)).up (h _ _)).up (h _ _)) 0 21 72) 4 25 6) 5 26 6) 7 28 160) 8 29 4
/-- the whole text -/
noncomputable def pTells (g : MG) : MG × Int := pItems 170 (pNext (pStart g)) 0
section M13
variable {E : Ev} {am : Nat} {B : Nat → Nat} {h0 h : AH} {g : MG} {Q : Value → AH → Prop} {X : Nat → AH → Prop}
theorem c_item52 (hB : MB am B) (hI : PI g) (K : Q .null (mkM am B h0 (pItem2 g))) : V E mX7_readsItem 9 0 52 [some (.ref am)] [] (mkM am B h0 g) Q X := by
  obtain ⟨hr_g, p2, p3, p4, p5, p6⟩ := hI
  unfold pItem2 at K
  by_cases c1 : g 20 0 = -9
  · rw [pIf_t c1] at K
    by_cases c2 : g 18 0 = 3 ∧ g 19 0 = 59
    · rw [pIf_t c2] at K
      refine V_aload_n dX7_readsItem_52 rfl ?_
      refine V_aload_n dX7_readsItem_53 rfl ?_
      refine V_bipush dX7_readsItem_54 (by decide) ?_
      refine VM_c1 (M' := mX7_is) okX7_is rfl dX7_readsItem_56 q2788 rfl rfl (Nat.le_of_ble_eq_true rfl) (d' := 1) (b1 := 0) (by decide) (by decide) (c_X7_is hB hr_g (by first | omega | exact hr_g _ _ | decide) (fun _ => ?_) (fun c9 => absurd c2 c9))
      refine VM_v1 (M' := mX7_passes) okX7_passes rfl dX7_readsItem_59 q2800 rfl rfl (Nat.le_of_ble_eq_true rfl) (d' := 4) (b1 := 0) (by decide) (by decide) (c_X7_passes1 hB hr_g (by first | omega | (simp [gup, aup]; omega)) (by first | omega | (simp [gup, aup]; omega)) ?_)
      exact V_vret dX7_readsItem_62 rfl (by exact K)
    · rw [pIf_f c2] at K
      refine V_aload_n dX7_readsItem_52 rfl ?_
      refine V_aload_n dX7_readsItem_53 rfl ?_
      refine V_bipush dX7_readsItem_54 (by decide) ?_
      refine VM_c1 (M' := mX7_is) okX7_is rfl dX7_readsItem_56 q2788 rfl rfl (Nat.le_of_ble_eq_true rfl) (d' := 1) (b1 := 0) (by decide) (by decide) (c_X7_is hB hr_g (by first | omega | exact hr_g _ _ | decide) (fun c9 => absurd c9 c2) (fun _ => ?_))
      refine VM_v1 (M' := mX7_passes) okX7_passes rfl dX7_readsItem_59 q2800 rfl rfl (Nat.le_of_ble_eq_true rfl) (d' := 4) (b1 := 0) (by decide) (by decide) (c_X7_passes0 hB hr_g (by first | omega | (simp [gup, aup]; omega)) (by first | omega | (simp [gup, aup]; omega)) ?_)
      exact V_vret dX7_readsItem_62 rfl (by exact K)
  · rw [pIf_f c1] at K
    refine V_aload_n dX7_readsItem_52 rfl ?_
    refine V_aload_n dX7_readsItem_53 rfl ?_
    refine V_bipush dX7_readsItem_54 (by decide) ?_
    refine VM_c1 (M' := mX7_is) okX7_is rfl dX7_readsItem_56 q2788 rfl rfl (Nat.le_of_ble_eq_true rfl) (d' := 1) (b1 := 0) (by decide) (by decide) (c_X7_is hB hr_g (by first | omega | exact hr_g _ _ | decide) (fun c_56 => ?_) (fun c_56 => ?_))
    · refine VM_v1 (M' := mX7_passes) okX7_passes rfl dX7_readsItem_59 q2800 rfl rfl (Nat.le_of_ble_eq_true rfl) (d' := 4) (b1 := 0) (by decide) (by decide) (c_X7_passesB hB hr_g (by first | omega | exact hr_g _ _ | decide) (by first | omega | (simp [gup, aup]; omega)) ?_)
      exact V_vret dX7_readsItem_62 rfl (by exact K)
    · refine VM_v1 (M' := mX7_passes) okX7_passes rfl dX7_readsItem_59 q2800 rfl rfl (Nat.le_of_ble_eq_true rfl) (d' := 4) (b1 := 0) (by decide) (by decide) (c_X7_passesB hB hr_g (by first | omega | exact hr_g _ _ | decide) (by first | omega | (simp [gup, aup]; omega)) ?_)
      exact V_vret dX7_readsItem_62 rfl (by exact K)
theorem c_X7_readsItem (hB : MB am B) (hI : NI g) (hf : g 20 0 = -9) (K : Q .null (mkM am B h0 (pItem g))) : V E mX7_readsItem 9 0 0 [some (.ref am)] [] (mkM am B h0 g) Q X := by
  have hI' := hI
  have h1 := (hI.item1 hf).1.1
  have hn := dpt_nn (w := g 25) 8 (g 30 0)
  obtain ⟨⟨hr_g, p2, p3, p4, p5, p6⟩, a2, a3, a4, a5, a6⟩ := hI
  unfold pItem at K
  unfold pItem1 at K h1
  by_cases c1 : g 18 0 = 3 ∧ g 19 0 = 91
  · rw [pIf_t c1] at K h1
    refine V_aload_n dX7_readsItem_0 rfl ?_
    refine V_bipush dX7_readsItem_1 (by decide) ?_
    refine VM_c1 (M' := mX7_is) okX7_is rfl dX7_readsItem_3 q2788 rfl rfl (Nat.le_of_ble_eq_true rfl) (d' := 1) (b1 := 0) (by decide) (by decide) (c_X7_is hB hr_g (by first | omega | exact hr_g _ _ | decide) (fun _ => ?_) (fun c9 => absurd c1 c9))
    refine V_if_eq 16 dX7_readsItem_6 (by decide) (by first | omega | exact hr_g _ _ | decide) (fun c_6 => absurd c_6 (by decide)) (fun c_6 => ?_)
    refine V_aload_n dX7_readsItem_9 rfl ?_
    refine VM_v0 (M' := mX7_opens) okX7_opens rfl dX7_readsItem_10 q2792 rfl rfl (Nat.le_of_ble_eq_true rfl) (d' := 5) (b1 := 0) (by decide) (by decide) (c_X7_opens hB hI'.1 hf (by omega) ?_)
    refine V_goto 52 dX7_readsItem_13 (by decide) ?_
    exact c_item52 hB h1 K
  · rw [pIf_f c1] at K h1
    by_cases c2 : g 18 0 = 3 ∧ g 19 0 = 93
    · rw [pIf_t c2] at K h1
      refine V_aload_n dX7_readsItem_0 rfl ?_
      refine V_bipush dX7_readsItem_1 (by decide) ?_
      refine VM_c1 (M' := mX7_is) okX7_is rfl dX7_readsItem_3 q2788 rfl rfl (Nat.le_of_ble_eq_true rfl) (d' := 1) (b1 := 0) (by decide) (by decide) (c_X7_is hB hr_g (by first | omega | exact hr_g _ _ | decide) (fun c9 => absurd c9 c1) (fun _ => ?_))
      refine V_if_eq 16 dX7_readsItem_6 (by decide) (by first | omega | exact hr_g _ _ | decide) (fun c_6 => ?_) (fun c_6 => absurd c_6 (by decide))
      refine V_aload_n dX7_readsItem_16 rfl ?_
      refine V_bipush dX7_readsItem_17 (by decide) ?_
      refine VM_c1 (M' := mX7_is) okX7_is rfl dX7_readsItem_19 q2788 rfl rfl (Nat.le_of_ble_eq_true rfl) (d' := 1) (b1 := 0) (by decide) (by decide) (c_X7_is hB hr_g (by first | omega | exact hr_g _ _ | decide) (fun _ => ?_) (fun c9 => absurd c2 c9))
      refine V_if_eq 32 dX7_readsItem_22 (by decide) (by first | omega | exact hr_g _ _ | decide) (fun c_22 => absurd c_22 (by decide)) (fun c_22 => ?_)
      refine V_aload_n dX7_readsItem_25 rfl ?_
      refine VM_v0 (M' := mX7_closes) okX7_closes rfl dX7_readsItem_26 q2812 rfl rfl (Nat.le_of_ble_eq_true rfl) (d' := 5) (b1 := 0) (by decide) (by decide) (c_X7_closes hB hI'.1 hf (by omega) ?_)
      refine V_goto 52 dX7_readsItem_29 (by decide) ?_
      exact c_item52 hB h1 K
    · rw [pIf_f c2] at K h1
      by_cases c3 : g 18 0 = 1
      · rw [pIf_t c3] at K h1
        refine V_aload_n dX7_readsItem_0 rfl ?_
        refine V_bipush dX7_readsItem_1 (by decide) ?_
        refine VM_c1 (M' := mX7_is) okX7_is rfl dX7_readsItem_3 q2788 rfl rfl (Nat.le_of_ble_eq_true rfl) (d' := 1) (b1 := 0) (by decide) (by decide) (c_X7_is hB hr_g (by first | omega | exact hr_g _ _ | decide) (fun c9 => absurd c9 c1) (fun _ => ?_))
        refine V_if_eq 16 dX7_readsItem_6 (by decide) (by first | omega | exact hr_g _ _ | decide) (fun c_6 => ?_) (fun c_6 => absurd c_6 (by decide))
        refine V_aload_n dX7_readsItem_16 rfl ?_
        refine V_bipush dX7_readsItem_17 (by decide) ?_
        refine VM_c1 (M' := mX7_is) okX7_is rfl dX7_readsItem_19 q2788 rfl rfl (Nat.le_of_ble_eq_true rfl) (d' := 1) (b1 := 0) (by decide) (by decide) (c_X7_is hB hr_g (by first | omega | exact hr_g _ _ | decide) (fun c9 => absurd c9 c2) (fun _ => ?_))
        refine V_if_eq 32 dX7_readsItem_22 (by decide) (by first | omega | exact hr_g _ _ | decide) (fun c_22 => ?_) (fun c_22 => absurd c_22 (by decide))
        refine V_aload_n dX7_readsItem_32 rfl ?_
        refine VM_getiE 18 (g 18 0) dX7_readsItem_33 q2624 (by decide) rfl rfl ?_
        refine V_iconst dX7_readsItem_36 ?_
        refine V_icmp_ne 47 dX7_readsItem_37 (by decide) (by first | omega | exact hr_g _ _ | decide) (by first | omega | exact hr_g _ _ | decide) (fun c_37 => by exfalso; omega) (fun c_37 => ?_)
        refine V_aload_n dX7_readsItem_40 rfl ?_
        refine VM_v0 (M' := mX7_readsNode) okX7_readsNode rfl dX7_readsItem_41 q2816 rfl rfl (Nat.le_of_ble_eq_true rfl) (d' := 8) (b1 := 0) (by decide) (by decide) (c_X7_readsNode hB hI'.1 hf a2 a3 ?_)
        refine V_goto 52 dX7_readsItem_44 (by decide) ?_
        exact c_item52 hB h1 K
      · rw [pIf_f c3] at K h1
        refine V_aload_n dX7_readsItem_0 rfl ?_
        refine V_bipush dX7_readsItem_1 (by decide) ?_
        refine VM_c1 (M' := mX7_is) okX7_is rfl dX7_readsItem_3 q2788 rfl rfl (Nat.le_of_ble_eq_true rfl) (d' := 1) (b1 := 0) (by decide) (by decide) (c_X7_is hB hr_g (by first | omega | exact hr_g _ _ | decide) (fun c9 => absurd c9 c1) (fun _ => ?_))
        refine V_if_eq 16 dX7_readsItem_6 (by decide) (by first | omega | exact hr_g _ _ | decide) (fun c_6 => ?_) (fun c_6 => absurd c_6 (by decide))
        refine V_aload_n dX7_readsItem_16 rfl ?_
        refine V_bipush dX7_readsItem_17 (by decide) ?_
        refine VM_c1 (M' := mX7_is) okX7_is rfl dX7_readsItem_19 q2788 rfl rfl (Nat.le_of_ble_eq_true rfl) (d' := 1) (b1 := 0) (by decide) (by decide) (c_X7_is hB hr_g (by first | omega | exact hr_g _ _ | decide) (fun c9 => absurd c9 c2) (fun _ => ?_))
        refine V_if_eq 32 dX7_readsItem_22 (by decide) (by first | omega | exact hr_g _ _ | decide) (fun c_22 => ?_) (fun c_22 => absurd c_22 (by decide))
        refine V_aload_n dX7_readsItem_32 rfl ?_
        refine VM_getiE 18 (g 18 0) dX7_readsItem_33 q2624 (by decide) rfl rfl ?_
        refine V_iconst dX7_readsItem_36 ?_
        refine V_icmp_ne 47 dX7_readsItem_37 (by decide) (by first | omega | exact hr_g _ _ | decide) (by first | omega | exact hr_g _ _ | decide) (fun c_37 => ?_) (fun c_37 => by exfalso; omega)
        refine V_aload_n dX7_readsItem_47 rfl ?_
        refine V_iconst dX7_readsItem_48 ?_
        refine VM_v1 (M' := mX7_due) okX7_due rfl dX7_readsItem_49 q2796 rfl rfl (Nat.le_of_ble_eq_true rfl) (d' := 1) (b1 := 0) (by decide) (by decide) (c_X7_due0 hB hr_g hf ?_)
        exact c_item52 hB h1 K
theorem c_tells48x (hB : MB am B) {n : Int} (hr_g : Rng g) (c1 : ¬ (g 20 0 = -9 ∧ g 18 0 ≠ 4)) (K : V E mX7_tells 10 0 75 [some (.ref am), some (vI n)] [] (mkM am B h0 g) Q X) : V E mX7_tells 10 0 48 [some (.ref am), some (vI n)] [] (mkM am B h0 g) Q X := by
  refine V_aload_n dX7_tells_48 rfl ?_
  refine VM_getiE 20 (g 20 0) dX7_tells_49 q2626 (by decide) rfl rfl ?_
  refine V_bipush dX7_tells_52 (by decide) ?_
  refine V_icmp_ne 75 dX7_tells_54 (by decide) (by first | omega | exact hr_g _ _ | decide) (by first | omega | exact hr_g _ _ | decide) (fun c_54 => ?_) (fun c_54 => ?_)
  · exact K
  · refine V_aload_n dX7_tells_57 rfl ?_
    refine VM_getiE 18 (g 18 0) dX7_tells_58 q2624 (by decide) rfl rfl ?_
    refine V_iconst dX7_tells_61 ?_
    refine V_icmp_eq 75 dX7_tells_62 (by decide) (by first | omega | exact hr_g _ _ | decide) (by first | omega | exact hr_g _ _ | decide) (fun c_62 => ?_) (fun c_62 => ?_)
    · exact K
    · exfalso; omega
      skip
theorem c_tells48 (hB : MB am B) : ∀ (k : Nat) (g : MG) (n : Int), NI g → g 15 0 - g 16 0 < k → 0 ≤ n → n + k ≤ 1000 → (∀ (g' : MG) (n' : Int), pItems k g n = (g', n') → NI g' → 0 ≤ n' → n' ≤ 1000 → (g' 20 0 = -9 → g' 18 0 = 4) → V E mX7_tells 10 0 75 [some (.ref am), some (vI n')] [] (mkM am B h0 g') Q X) → V E mX7_tells 10 0 48 [some (.ref am), some (vI n)] [] (mkM am B h0 g) Q X := by
  intro k
  induction k with
  | zero =>
    intro g n hI hk
    have := hI.1.2.1
    omega
  | succ k ih =>
    intro g n hI hk hn hnk K
    have hI' := hI
    obtain ⟨⟨hr_g, p2, p3, p4, p5, p6⟩, a2, a3, a4, a5, a6⟩ := hI
    unfold pItems at K
    by_cases c1 : g 20 0 = -9 ∧ g 18 0 ≠ 4
    · rw [pIf_t c1] at K
      have hN := hI'.item c1.1
      have e15 : pItem g 15 0 = g 15 0 := by rw [pItem_ne (by omega)]
      have K48 : V E mX7_tells 10 0 48 [some (.ref am), some (vI (n + 1))] [] (mkM am B h0 (pItem g)) Q X := by
        by_cases fe : pItem g 20 0 = -9
        · have := hN.2 fe
          exact ih _ (n + 1) hN.1 (by omega) (by omega) (by omega) K
        · refine c_tells48x hB hN.1.1.1 (fun h9 => fe h9.1) (K _ (n + 1) ?_ hN.1 (by omega) (by omega) (fun h9 => absurd h9 fe))
          cases k with
          | zero => rfl
          | succ k => unfold pItems; rw [pIf_f (fun h9 => fe h9.1)]
      refine V_aload_n dX7_tells_48 rfl ?_
      refine VM_getiE 20 (g 20 0) dX7_tells_49 q2626 (by decide) rfl rfl ?_
      refine V_bipush dX7_tells_52 (by decide) ?_
      refine V_icmp_ne 75 dX7_tells_54 (by decide) (by first | omega | exact hr_g _ _ | decide) (by first | omega | exact hr_g _ _ | decide) (fun c_54 => by exfalso; omega) (fun c_54 => ?_)
      refine V_aload_n dX7_tells_57 rfl ?_
      refine VM_getiE 18 (g 18 0) dX7_tells_58 q2624 (by decide) rfl rfl ?_
      refine V_iconst dX7_tells_61 ?_
      refine V_icmp_eq 75 dX7_tells_62 (by decide) (by first | omega | exact hr_g _ _ | decide) (by first | omega | exact hr_g _ _ | decide) (fun c_62 => by exfalso; omega) (fun c_62 => ?_)
      refine V_aload_n dX7_tells_65 rfl ?_
      refine VM_v0 (M' := mX7_readsItem) okX7_readsItem rfl dX7_tells_66 q2784 rfl rfl (Nat.le_of_ble_eq_true rfl) (d' := 9) (b1 := 0) (by decide) (by decide) (c_X7_readsItem hB hI' c1.1 ?_)
      refine V_iinc dX7_tells_69 rfl (by decide) ?_
      refine V_goto 48 dX7_tells_72 (by decide) ?_
      exact K48
    · rw [pIf_f c1] at K
      exact c_tells48x hB hr_g c1 (K g n rfl hI' hn (by omega) (by omega))
theorem NI.start {g : MG} (hr_g : Rng g) (h15 : 0 ≤ g 15 0 ∧ g 15 0 ≤ 160) (h17 : 0 ≤ g 17 0) : NI (pStart g) := by
  refine ⟨⟨?_, ⟨Int.le_refl _, h15.1, h15.2⟩, (show (0 : Int) ≤ 0 ∧ (0 : Int) ≤ 12 from by decide), (show (0 : Int) ≤ 0 ∧ (0 : Int) ≤ 6 from by decide), h17, Or.inl rfl, fun k k1 k2 => ?_⟩, (show (0 : Int) ≤ 0 ∧ (0 : Int) ≤ 6 from by decide), (show (0 : Int) ≤ 0 ∧ (0 : Int) ≤ 4 from by decide), fun k k1 k2 => ?_, ?_, ?_⟩
  · exact (((((((hr_g.up (by decide)).up (by decide)).up (by decide)).up (by decide)).up (by decide)).up (by decide)).up (by decide)).up (by decide)
  · change k < 0 at k2; omega
  · change k < 0 at k2; omega
  · show (0 : Int) = dpt (g 25) 8 (-9); rw [dpt_0]
  · show (0 : Int) ≤ 4; decide
theorem c_X7_tells (hB : MB am B) (hr_g : Rng g) (h15 : 0 ≤ g 15 0 ∧ g 15 0 ≤ 160) (h17 : 0 ≤ g 17 0)
    (Kf : (pTells g).1 20 0 ≠ -9 → Rng (pTells g).1 → Q (vI (-10 - (pTells g).1 20 0)) (mkM am B h0 (pTells g).1))
    (Kt : (pTells g).1 20 0 = -9 → NI (pTells g).1 → Q (vI (pTells g).2) (mkM am B h0 (gup (pBegins (pTake (pTells g).1)) 15 0 0))) : V E mX7_tells 10 0 0 [some (.ref am), none] [] (mkM am B h0 g) Q X := by
  have hS := NI.start hr_g h15 h17
  have hS2 := hS.1.2.1
  have hN := hS.next
  have e15 : pNext (pStart g) 15 0 = g 15 0 := by rw [pN_ne (by omega)]; rfl
  have e16 : 0 ≤ pNext (pStart g) 16 0 := hN.1.2.1.1
  have K48 : V E mX7_tells 10 0 48 [some (.ref am), some (vI 0)] [] (mkM am B h0 (pNext (pStart g))) Q X := by
    refine c_tells48 hB 170 _ 0 hN (by omega) (by omega) (by omega) (fun g' n' he hI' hn0 hn1 hs => ?_)
    have e1 : (pTells g).1 = g' := by unfold pTells; rw [he]
    have e2 : (pTells g).2 = n' := by unfold pTells; rw [he]
    rw [e1, e2] at Kt
    rw [e1] at Kf
    have hr_g' := hI'.1.1
    have hT := pTake_r hr_g'
    by_cases c : g' 20 0 = -9
    · have K' := Kt c hI'
      refine V_aload_n dX7_tells_75 rfl ?_
      refine VM_getiE 20 (g' 20 0) dX7_tells_76 q2626 (by decide) rfl rfl ?_
      refine V_bipush dX7_tells_79 (by decide) ?_
      refine V_icmp_eq 92 dX7_tells_81 (by decide) (by first | omega | exact hr_g _ _ | decide) (by first | omega | exact hr_g _ _ | decide) (fun c_81 => ?_) (fun c_81 => by exfalso; omega)
      refine V_aload_n dX7_tells_92 rfl ?_
      refine VM_v0 (M' := mX7_takesOver) okX7_takesOver rfl dX7_tells_93 q2848 rfl rfl (Nat.le_of_ble_eq_true rfl) (d' := 1) (b1 := 0) (by decide) (by decide) (c_X7_takesOver hB hr_g' ?_)
      refine V_aload_n dX7_tells_96 rfl ?_
      refine VM_v0 (M' := mX7_begins) okX7_begins rfl dX7_tells_97 q2595 rfl rfl (Nat.le_of_ble_eq_true rfl) (d' := 3) (b1 := 0) (by decide) (by decide) (c_X7_begins hB hT ?_)
      refine V_aload_n dX7_tells_100 rfl ?_
      refine V_iconst dX7_tells_101 ?_
      refine VM_puti 15 dX7_tells_102 q2621 (by decide) rfl rfl mfs15 mna15 ?_
      refine V_iload_n dX7_tells_105 rfl ?_
      exact V_iret dX7_tells_106 rfl (by exact K')
    · have K' := Kf c hr_g'
      refine V_aload_n dX7_tells_75 rfl ?_
      refine VM_getiE 20 (g' 20 0) dX7_tells_76 q2626 (by decide) rfl rfl ?_
      refine V_bipush dX7_tells_79 (by decide) ?_
      refine V_icmp_eq 92 dX7_tells_81 (by decide) (by first | omega | exact hr_g' _ _ | decide) (by first | omega | exact hr_g' _ _ | decide) (fun c_81 => by exfalso; omega) (fun c_81 => ?_)
      refine V_bipush dX7_tells_84 (by decide) ?_
      refine V_aload_n dX7_tells_86 rfl ?_
      refine VM_getiE 20 (g' 20 0) dX7_tells_87 q2626 (by decide) rfl rfl ?_
      refine V_isub dX7_tells_90 ?_
      exact V_iret dX7_tells_91 rfl (by exact K')
  refine V_aload_n dX7_tells_0 rfl ?_
  refine V_iconst dX7_tells_1 ?_
  refine VM_puti 16 dX7_tells_2 q2622 (by decide) rfl rfl mfs16 mna16 ?_
  refine V_aload_n dX7_tells_5 rfl ?_
  refine V_bipush dX7_tells_6 (by decide) ?_
  refine VM_puti 20 dX7_tells_8 q2626 (by decide) rfl rfl mfs20 mna20 ?_
  refine V_aload_n dX7_tells_11 rfl ?_
  refine V_iconst dX7_tells_12 ?_
  refine VM_puti 22 dX7_tells_13 q2628 (by decide) rfl rfl mfs22 mna22 ?_
  refine V_aload_n dX7_tells_16 rfl ?_
  refine V_iconst dX7_tells_17 ?_
  refine VM_puti 23 dX7_tells_18 q2629 (by decide) rfl rfl mfs23 mna23 ?_
  refine V_aload_n dX7_tells_21 rfl ?_
  refine V_iconst dX7_tells_22 ?_
  refine VM_puti 24 dX7_tells_23 q2630 (by decide) rfl rfl mfs24 mna24 ?_
  refine V_aload_n dX7_tells_26 rfl ?_
  refine V_iconst dX7_tells_27 ?_
  refine VM_puti 27 dX7_tells_28 q2633 (by decide) rfl rfl mfs27 mna27 ?_
  refine V_aload_n dX7_tells_31 rfl ?_
  refine V_bipush dX7_tells_32 (by decide) ?_
  refine VM_puti 30 dX7_tells_34 q2636 (by decide) rfl rfl mfs30 mna30 ?_
  refine V_aload_n dX7_tells_37 rfl ?_
  refine V_iconst dX7_tells_38 ?_
  refine VM_puti 31 dX7_tells_39 q2637 (by decide) rfl rfl mfs31 mna31 ?_
  refine V_iconst dX7_tells_42 ?_
  refine V_istore_n dX7_tells_43 (by decide) ?_
  refine V_aload_n dX7_tells_44 rfl ?_
  refine VM_v0 (M' := mX7_next) okX7_next rfl dX7_tells_45 q2773 rfl rfl (Nat.le_of_ble_eq_true rfl) (d' := 3) (b1 := 0) (by decide) (by decide) (c_X7_next hB hS.1.1 hS2 ?_)
  exact K48
end M13
