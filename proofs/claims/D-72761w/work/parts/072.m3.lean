/-! THE REFERENCE'S METHODS, part 3: scopes, paths -/
/-- what the reader's numbers are like -/
def PI (g : MG) : Prop := Rng g ∧ (0 ≤ g 16 0 ∧ g 16 0 ≤ g 15 0 ∧ g 15 0 ≤ 160) ∧ (0 ≤ g 22 0 ∧ g 22 0 ≤ 12) ∧ (0 ≤ g 27 0 ∧ g 27 0 ≤ 6) ∧ 0 ≤ g 17 0 ∧ (g 30 0 = -9 ∨ (0 ≤ g 30 0 ∧ g 30 0 < g 27 0)) ∧ ∀ k, 0 ≤ k → k < g 27 0 → (g 25 k = -9 ∨ (0 ≤ g 25 k ∧ g 25 k < g 27 0))
def pFault (g : MG) : MG := gup g 20 0 (g 17 0)
theorem pN_ne {g : MG} {k : Nat} (h : k < 16 ∨ 19 < k) : pNext g k = g k := by unfold pNext; exact pT_ne h
theorem pN_17 {g : MG} : pNext g 17 0 = tkS (g 14) (g 15 0) (g 16 0) := rfl
theorem pN_16 {g : MG} : pNext g 16 0 = tkEnd (g 14) (g 15 0) (tkS (g 14) (g 15 0) (g 16 0)) := rfl
theorem pN_18 {g : MG} : pNext g 18 0 = tkSort (g 14) (g 15 0) (tkS (g 14) (g 15 0) (g 16 0)) := rfl
theorem PI.next {g : MG} (h : PI g) : PI (pNext g) := by
  obtain ⟨h1, h2, h3, h4, h5, h6, h7⟩ := h
  have a1 := tkS_in (tx := g 14) h2.2.1
  have a2 := tkEnd_in (tx := g 14) a1.2 (by omega)
  refine ⟨rng_pNext h1 h2, ?_, ?_, ?_, ?_, ?_, ?_⟩
  · rw [pN_ne (k := 15) (by omega), pN_16]; omega
  · rw [pN_ne (by omega)]; exact h3
  · rw [pN_ne (by omega)]; exact h4
  · rw [pN_17]; omega
  · rw [pN_ne (k := 30) (by omega), pN_ne (k := 27) (by omega)]; exact h6
  · rw [pN_ne (k := 27) (by omega), pN_ne (k := 25) (by omega)]; exact h7
theorem PI.fault {g : MG} (h : PI g) : PI (pFault g) := by
  obtain ⟨h1, h2, h3, h4, h5, h6, h7⟩ := h
  exact ⟨h1.up (h1 17 0), h2, h3, h4, h5, h6, h7⟩
noncomputable def pOpens2 (g : MG) : MG :=
  pIf (¬ (g 18 0 = 1 ∧ nNB g (g 30 0) (g 19 0) = -9)) (pFault g) (
    pIf (nSB g (g 30 0) (g 19 0) = -9) (pIf (¬ g 27 0 < 6) (pFault g) (pNext (gup (gup (gup (gup (gup g 25 (g 27 0) (g 30 0)) 26 (g 27 0) (g 19 0)) 27 0 (g 27 0 + 1)) 30 0 (g 27 0)) 31 0 (g 31 0 + 1))))
      (pNext (gup (gup g 30 0 (nSB g (g 30 0) (g 19 0))) 31 0 (g 31 0 + 1))))
noncomputable def pOpens (g : MG) : MG := pIf (¬ g 31 0 < 4) (pFault g) (pOpens2 (pNext g))
noncomputable def pCloses (g : MG) : MG := pIf (g 30 0 = -9) (pFault g) (pNext (gup (gup g 30 0 (g 25 (g 30 0))) 31 0 (g 31 0 - 1)))
section M3
variable {E : Ev} {am : Nat} {B : Nat → Nat} {h0 h : AH} {g : MG} {Q : Value → AH → Prop} {X : Nat → AH → Prop}
theorem c_opens56 (hB : MB am B) {v : Option Value} (hr_g : Rng g) (hf : g 20 0 ≠ -9) (K : Q .null (mkM am B h0 g)) : V E mX7_opens 5 0 56 [some (.ref am), v] [] (mkM am B h0 g) Q X := by
  refine V_aload_n dX7_opens_56 rfl ?_
  refine VM_getiE 20 (g 20 0) dX7_opens_57 q2626 (by decide) rfl rfl ?_
  refine V_bipush dX7_opens_60 (by decide) ?_
  refine V_icmp_eq 66 dX7_opens_62 (by decide) (by first | omega | exact hr_g _ _ | decide) (by first | omega | exact hr_g _ _ | decide) (fun c_62 => by exfalso; omega) (fun c_62 => ?_)
  exact V_vret dX7_opens_65 rfl (by exact K)
theorem c_opens103 (hB : MB am B) {v : Option Value} (hr_g : Rng g) (hf : g 20 0 ≠ -9) (K : Q .null (mkM am B h0 g)) : V E mX7_opens 5 0 103 [some (.ref am), v] [] (mkM am B h0 g) Q X := by
  refine V_aload_n dX7_opens_103 rfl ?_
  refine VM_getiE 20 (g 20 0) dX7_opens_104 q2626 (by decide) rfl rfl ?_
  refine V_bipush dX7_opens_107 (by decide) ?_
  refine V_icmp_eq 113 dX7_opens_109 (by decide) (by first | omega | exact hr_g _ _ | decide) (by first | omega | exact hr_g _ _ | decide) (fun c_109 => by exfalso; omega) (fun c_109 => ?_)
  exact V_vret dX7_opens_112 rfl (by exact K)
theorem c_opens17 (hB : MB am B) {v : Option Value} (hI : PI g) (hf : g 20 0 ≠ -9) (K : Q .null (mkM am B h0 g)) : V E mX7_opens 5 0 17 [some (.ref am), v] [] (mkM am B h0 g) Q X := by
  obtain ⟨hr_g, h2, h3, h4, h5, h6⟩ := hI
  refine V_aload_n dX7_opens_17 rfl ?_
  refine V_iconst dX7_opens_18 ?_
  refine VM_v1 (M' := mX7_passes) okX7_passes rfl dX7_opens_19 q2800 rfl rfl (Nat.le_of_ble_eq_true rfl) (d' := 4) (b1 := 0) (by decide) (by decide) (c_X7_passesB hB hr_g (by first | omega | exact hr_g _ _ | decide | exact lastI_r (by omega) (by omega)) (by first | omega | (simp [gup, aup]; omega)) ?_)
  refine V_aload_n dX7_opens_22 rfl ?_
  refine V_aload_n dX7_opens_23 rfl ?_
  refine VM_getiE 18 (g 18 0) dX7_opens_24 q2624 (by decide) rfl rfl ?_
  refine V_iconst dX7_opens_27 ?_
  refine V_icmp_ne 52 dX7_opens_28 (by decide) (by first | omega | exact hr_g _ _ | decide | exact lastI_r (by omega) (by omega)) (by first | omega | exact hr_g _ _ | decide | exact lastI_r (by omega) (by omega)) (fun c_28 => ?_) (fun c_28 => ?_)
  · refine V_iconst dX7_opens_52 ?_
    refine VM_v1 (M' := mX7_due) okX7_due rfl dX7_opens_53 q2796 rfl rfl (Nat.le_of_ble_eq_true rfl) (d' := 1) (b1 := 0) (by decide) (by decide) (c_X7_dueB hB hr_g (by first | omega | exact hr_g _ _ | decide | exact lastI_r (by omega) (by omega)) (by first | omega | (simp [gup, aup]; omega)) ?_)
    refine V_aload_n dX7_opens_56 rfl ?_
    refine VM_getiE 20 (g 20 0) dX7_opens_57 q2626 (by decide) rfl rfl ?_
    refine V_bipush dX7_opens_60 (by decide) ?_
    refine V_icmp_eq 66 dX7_opens_62 (by decide) (by first | omega | exact hr_g _ _ | decide | exact lastI_r (by omega) (by omega)) (by first | omega | exact hr_g _ _ | decide | exact lastI_r (by omega) (by omega)) (fun c_62 => by exfalso; omega) (fun c_62 => ?_)
    exact V_vret dX7_opens_65 rfl (by exact K)
  · refine V_aload_n dX7_opens_31 rfl ?_
    refine V_aload_n dX7_opens_32 rfl ?_
    refine VM_getiE 30 (g 30 0) dX7_opens_33 q2636 (by decide) rfl rfl ?_
    refine V_aload_n dX7_opens_36 rfl ?_
    refine VM_getiE 19 (g 19 0) dX7_opens_37 q2625 (by decide) rfl rfl ?_
    refine VM_c2 (M' := mX7_newNodeBy) okX7_newNodeBy rfl dX7_opens_40 q2804 rfl rfl (Nat.le_of_ble_eq_true rfl) (d' := 2) (b1 := 0) (by decide) (by decide) (c_X7_newNodeBy hB hr_g (by first | omega | exact hr_g _ _ | decide | exact lastI_r (by omega) (by omega)) (by first | omega | exact hr_g _ _ | decide | exact lastI_r (by omega) (by omega)) (by first | omega | (simp [gup, aup]; omega)) ?_)
    refine V_bipush dX7_opens_43 (by decide) ?_
    refine V_icmp_ne 52 dX7_opens_45 (by decide) (by first | omega | exact hr_g _ _ | decide | exact lastI_r (by omega) (by omega)) (by first | omega | exact hr_g _ _ | decide | exact lastI_r (by omega) (by omega)) (fun c_45 => ?_) (fun c_45 => ?_)
    · refine V_iconst dX7_opens_52 ?_
      refine VM_v1 (M' := mX7_due) okX7_due rfl dX7_opens_53 q2796 rfl rfl (Nat.le_of_ble_eq_true rfl) (d' := 1) (b1 := 0) (by decide) (by decide) (c_X7_dueB hB hr_g (by first | omega | exact hr_g _ _ | decide | exact lastI_r (by omega) (by omega)) (by first | omega | (simp [gup, aup]; omega)) ?_)
      refine V_aload_n dX7_opens_56 rfl ?_
      refine VM_getiE 20 (g 20 0) dX7_opens_57 q2626 (by decide) rfl rfl ?_
      refine V_bipush dX7_opens_60 (by decide) ?_
      refine V_icmp_eq 66 dX7_opens_62 (by decide) (by first | omega | exact hr_g _ _ | decide | exact lastI_r (by omega) (by omega)) (by first | omega | exact hr_g _ _ | decide | exact lastI_r (by omega) (by omega)) (fun c_62 => by exfalso; omega) (fun c_62 => ?_)
      exact V_vret dX7_opens_65 rfl (by exact K)
    · refine V_iconst dX7_opens_48 ?_
      refine V_goto 53 dX7_opens_49 (by decide) ?_
      refine VM_v1 (M' := mX7_due) okX7_due rfl dX7_opens_53 q2796 rfl rfl (Nat.le_of_ble_eq_true rfl) (d' := 1) (b1 := 0) (by decide) (by decide) (c_X7_dueB hB hr_g (by first | omega | exact hr_g _ _ | decide | exact lastI_r (by omega) (by omega)) (by first | omega | (simp [gup, aup]; omega)) ?_)
      refine V_aload_n dX7_opens_56 rfl ?_
      refine VM_getiE 20 (g 20 0) dX7_opens_57 q2626 (by decide) rfl rfl ?_
      refine V_bipush dX7_opens_60 (by decide) ?_
      refine V_icmp_eq 66 dX7_opens_62 (by decide) (by first | omega | exact hr_g _ _ | decide | exact lastI_r (by omega) (by omega)) (by first | omega | exact hr_g _ _ | decide | exact lastI_r (by omega) (by omega)) (fun c_62 => by exfalso; omega) (fun c_62 => ?_)
      exact V_vret dX7_opens_65 rfl (by exact K)
theorem c_opens22 (hB : MB am B) {v : Option Value} (hI : PI g) (hf : g 20 0 = -9) (hd : 0 ≤ g 31 0 ∧ g 31 0 ≤ 4) (K : Q .null (mkM am B h0 (pOpens2 g))) : V E mX7_opens 5 0 22 [some (.ref am), v] [] (mkM am B h0 g) Q X := by
  obtain ⟨hr_g, h2, h3, h4, h5, h6⟩ := hI
  have a1 := lastI_in (p := fun n => decide (g 21 (6 * n + 3) = g 30 0 ∧ g 21 (6 * n + 4) = g 19 0)) h3.1
  have a2 := lastI_in (p := fun k => decide (g 25 k = g 30 0 ∧ g 26 k = g 19 0)) h4.1
  have i1 := lastI_r (p := fun n => decide (g 21 (6 * n + 3) = g 30 0 ∧ g 21 (6 * n + 4) = g 19 0)) h3.1 (by omega)
  have i2 := lastI_r (p := fun k => decide (g 25 k = g 30 0 ∧ g 26 k = g 19 0)) h4.1 (by omega)
  change inr (nNB g (g 30 0) (g 19 0)) at i1
  change inr (nSB g (g 30 0) (g 19 0)) at i2
  obtain ⟨i11, i12⟩ := i1
  obtain ⟨i21, i22⟩ := i2
  change nNB g (g 30 0) (g 19 0) = -9 ∨ _ at a1
  change nSB g (g 30 0) (g 19 0) = -9 ∨ _ at a2
  unfold pOpens2 at K
  by_cases hc : g 18 0 = 1 ∧ nNB g (g 30 0) (g 19 0) = -9
  · rw [pIf_f (by simpa using hc)] at K
    by_cases hk : nSB g (g 30 0) (g 19 0) = -9
    · rw [pIf_t hk] at K
      by_cases hs : g 27 0 < 6
      · rw [pIf_f (by simpa using hs)] at K
        refine V_aload_n dX7_opens_22 rfl ?_
        refine V_aload_n dX7_opens_23 rfl ?_
        refine VM_getiE 18 (g 18 0) dX7_opens_24 q2624 (by decide) rfl rfl ?_
        refine V_iconst dX7_opens_27 ?_
        refine V_icmp_ne 52 dX7_opens_28 (by decide) (by first | omega | exact hr_g _ _ | decide) (by first | omega | exact hr_g _ _ | decide) (fun c_28 => by exfalso; omega) (fun c_28 => ?_)
        refine V_aload_n dX7_opens_31 rfl ?_
        refine V_aload_n dX7_opens_32 rfl ?_
        refine VM_getiE 30 (g 30 0) dX7_opens_33 q2636 (by decide) rfl rfl ?_
        refine V_aload_n dX7_opens_36 rfl ?_
        refine VM_getiE 19 (g 19 0) dX7_opens_37 q2625 (by decide) rfl rfl ?_
        refine VM_c2 (M' := mX7_newNodeBy) okX7_newNodeBy rfl dX7_opens_40 q2804 rfl rfl (Nat.le_of_ble_eq_true rfl) (d' := 2) (b1 := 0) (by decide) (by decide) (c_X7_newNodeBy hB hr_g (by first | omega | exact hr_g _ _ | decide) (by first | omega | exact hr_g _ _ | decide) (by first | omega | (simp [gup, aup]; omega)) ?_)
        refine V_bipush dX7_opens_43 (by decide) ?_
        refine V_icmp_ne 52 dX7_opens_45 (by decide) (by first | omega | exact hr_g _ _ | decide) (by first | omega | exact hr_g _ _ | decide) (fun c_45 => by exfalso; omega) (fun c_45 => ?_)
        refine V_iconst dX7_opens_48 ?_
        refine V_goto 53 dX7_opens_49 (by decide) ?_
        refine VM_v1 (M' := mX7_due) okX7_due rfl dX7_opens_53 q2796 rfl rfl (Nat.le_of_ble_eq_true rfl) (d' := 1) (b1 := 0) (by decide) (by decide) (c_X7_due1 hB hr_g ?_)
        refine V_aload_n dX7_opens_56 rfl ?_
        refine VM_getiE 20 (g 20 0) dX7_opens_57 q2626 (by decide) rfl rfl ?_
        refine V_bipush dX7_opens_60 (by decide) ?_
        refine V_icmp_eq 66 dX7_opens_62 (by decide) (by first | omega | exact hr_g _ _ | decide) (by first | omega | exact hr_g _ _ | decide) (fun c_62 => ?_) (fun c_62 => by exfalso; omega)
        refine V_aload_n dX7_opens_66 rfl ?_
        refine V_aload_n dX7_opens_67 rfl ?_
        refine VM_getiE 30 (g 30 0) dX7_opens_68 q2636 (by decide) rfl rfl ?_
        refine V_aload_n dX7_opens_71 rfl ?_
        refine VM_getiE 19 (g 19 0) dX7_opens_72 q2625 (by decide) rfl rfl ?_
        refine VM_c2 (M' := mX7_newScopeBy) okX7_newScopeBy rfl dX7_opens_75 q2808 rfl rfl (Nat.le_of_ble_eq_true rfl) (d' := 2) (b1 := 0) (by decide) (by decide) (c_X7_newScopeBy hB hr_g (by first | omega | exact hr_g _ _ | decide) (by first | omega | exact hr_g _ _ | decide) (by first | omega | (simp [gup, aup]; omega)) ?_)
        refine V_istore_n dX7_opens_78 (by decide) ?_
        refine V_iload_n dX7_opens_79 rfl ?_
        refine V_bipush dX7_opens_80 (by decide) ?_
        refine V_icmp_ne 148 dX7_opens_82 (by decide) (by first | omega | exact hr_g _ _ | decide) (by first | omega | exact hr_g _ _ | decide) (fun c_82 => by exfalso; omega) (fun c_82 => ?_)
        refine V_aload_n dX7_opens_85 rfl ?_
        refine V_aload_n dX7_opens_86 rfl ?_
        refine VM_getiE 27 (g 27 0) dX7_opens_87 q2633 (by decide) rfl rfl ?_
        refine V_bipush dX7_opens_90 (by decide) ?_
        refine V_icmp_ge 99 dX7_opens_92 (by decide) (by first | omega | exact hr_g _ _ | decide) (by first | omega | exact hr_g _ _ | decide) (fun c_92 => by exfalso; omega) (fun c_92 => ?_)
        refine V_iconst dX7_opens_95 ?_
        refine V_goto 100 dX7_opens_96 (by decide) ?_
        refine VM_v1 (M' := mX7_due) okX7_due rfl dX7_opens_100 q2796 rfl rfl (Nat.le_of_ble_eq_true rfl) (d' := 1) (b1 := 0) (by decide) (by decide) (c_X7_due1 hB hr_g ?_)
        refine V_aload_n dX7_opens_103 rfl ?_
        refine VM_getiE 20 (g 20 0) dX7_opens_104 q2626 (by decide) rfl rfl ?_
        refine V_bipush dX7_opens_107 (by decide) ?_
        refine V_icmp_eq 113 dX7_opens_109 (by decide) (by first | omega | exact hr_g _ _ | decide) (by first | omega | exact hr_g _ _ | decide) (fun c_109 => ?_) (fun c_109 => by exfalso; omega)
        refine V_aload_n dX7_opens_113 rfl ?_
        refine VM_getiE 27 (g 27 0) dX7_opens_114 q2633 (by decide) rfl rfl ?_
        refine V_istore_n dX7_opens_117 (by decide) ?_
        refine V_aload_n dX7_opens_118 rfl ?_
        refine VM_geta 25 dX7_opens_119 q2631 (by decide) rfl ?_
        refine V_iload_n dX7_opens_122 rfl ?_
        refine V_aload_n dX7_opens_123 rfl ?_
        refine VM_getiE 30 (g 30 0) dX7_opens_124 q2636 (by decide) rfl rfl ?_
        refine VM_iast 25 hB dX7_opens_127 mar25 rfl mfa25 (by first | omega | (simp [gup, aup]; omega)) (by show _ < (6 : Int); first | omega | (simp [gup, aup]; omega)) (by decide) ?_
        refine V_aload_n dX7_opens_128 rfl ?_
        refine VM_geta 26 dX7_opens_129 q2632 (by decide) rfl ?_
        refine V_iload_n dX7_opens_132 rfl ?_
        refine V_aload_n dX7_opens_133 rfl ?_
        refine VM_getiE 19 (g 19 0) dX7_opens_134 q2625 (by decide) rfl rfl ?_
        refine VM_iast 26 hB dX7_opens_137 mar26 rfl mfa26 (by first | omega | (simp [gup, aup]; omega)) (by show _ < (6 : Int); first | omega | (simp [gup, aup]; omega)) (by decide) ?_
        refine V_aload_n dX7_opens_138 rfl ?_
        refine V_dup dX7_opens_139 rfl ?_
        refine VM_getiE 27 (g 27 0) dX7_opens_140 q2633 (by decide) rfl rfl ?_
        refine V_iconst dX7_opens_143 ?_
        refine V_iadd dX7_opens_144 ?_
        refine VM_puti 27 dX7_opens_145 q2633 (by decide) rfl rfl mfs27 mna27 ?_
        refine V_aload_n dX7_opens_148 rfl ?_
        refine V_iload_n dX7_opens_149 rfl ?_
        refine VM_puti 30 dX7_opens_150 q2636 (by decide) rfl rfl mfs30 mna30 ?_
        refine V_aload_n dX7_opens_153 rfl ?_
        refine V_dup dX7_opens_154 rfl ?_
        refine VM_getiE 31 (g 31 0) dX7_opens_155 q2637 (by decide) rfl rfl ?_
        refine V_iconst dX7_opens_158 ?_
        refine V_iadd dX7_opens_159 ?_
        refine VM_puti 31 dX7_opens_160 q2637 (by decide) rfl rfl mfs31 mna31 ?_
        refine V_aload_n dX7_opens_163 rfl ?_
        refine VM_v0 (M' := mX7_next) okX7_next rfl dX7_opens_164 q2773 rfl rfl (Nat.le_of_ble_eq_true rfl) (d' := 3) (b1 := 0) (by decide) (by decide) (c_X7_next hB (Rng.up (v := (g 31 0) + 1) (Rng.up (v := g 27 0) (Rng.up (v := (g 27 0) + 1) (Rng.up (v := g 19 0) (Rng.up (v := g 30 0) hr_g (by first | omega | exact hr_g _ _ | decide)) (by first | omega | exact hr_g _ _ | decide)) (by first | omega | exact hr_g _ _ | decide)) (by first | omega | exact hr_g _ _ | decide)) (by first | omega | exact hr_g _ _ | decide)) (by first | omega | (simp [gup, aup]; omega)) ?_)
        exact V_vret dX7_opens_167 rfl (by exact K)
      · rw [pIf_t hs] at K
        refine V_aload_n dX7_opens_22 rfl ?_
        refine V_aload_n dX7_opens_23 rfl ?_
        refine VM_getiE 18 (g 18 0) dX7_opens_24 q2624 (by decide) rfl rfl ?_
        refine V_iconst dX7_opens_27 ?_
        refine V_icmp_ne 52 dX7_opens_28 (by decide) (by first | omega | exact hr_g _ _ | decide) (by first | omega | exact hr_g _ _ | decide) (fun c_28 => by exfalso; omega) (fun c_28 => ?_)
        refine V_aload_n dX7_opens_31 rfl ?_
        refine V_aload_n dX7_opens_32 rfl ?_
        refine VM_getiE 30 (g 30 0) dX7_opens_33 q2636 (by decide) rfl rfl ?_
        refine V_aload_n dX7_opens_36 rfl ?_
        refine VM_getiE 19 (g 19 0) dX7_opens_37 q2625 (by decide) rfl rfl ?_
        refine VM_c2 (M' := mX7_newNodeBy) okX7_newNodeBy rfl dX7_opens_40 q2804 rfl rfl (Nat.le_of_ble_eq_true rfl) (d' := 2) (b1 := 0) (by decide) (by decide) (c_X7_newNodeBy hB hr_g (by first | omega | exact hr_g _ _ | decide) (by first | omega | exact hr_g _ _ | decide) (by first | omega | (simp [gup, aup]; omega)) ?_)
        refine V_bipush dX7_opens_43 (by decide) ?_
        refine V_icmp_ne 52 dX7_opens_45 (by decide) (by first | omega | exact hr_g _ _ | decide) (by first | omega | exact hr_g _ _ | decide) (fun c_45 => by exfalso; omega) (fun c_45 => ?_)
        refine V_iconst dX7_opens_48 ?_
        refine V_goto 53 dX7_opens_49 (by decide) ?_
        refine VM_v1 (M' := mX7_due) okX7_due rfl dX7_opens_53 q2796 rfl rfl (Nat.le_of_ble_eq_true rfl) (d' := 1) (b1 := 0) (by decide) (by decide) (c_X7_due1 hB hr_g ?_)
        refine V_aload_n dX7_opens_56 rfl ?_
        refine VM_getiE 20 (g 20 0) dX7_opens_57 q2626 (by decide) rfl rfl ?_
        refine V_bipush dX7_opens_60 (by decide) ?_
        refine V_icmp_eq 66 dX7_opens_62 (by decide) (by first | omega | exact hr_g _ _ | decide) (by first | omega | exact hr_g _ _ | decide) (fun c_62 => ?_) (fun c_62 => by exfalso; omega)
        refine V_aload_n dX7_opens_66 rfl ?_
        refine V_aload_n dX7_opens_67 rfl ?_
        refine VM_getiE 30 (g 30 0) dX7_opens_68 q2636 (by decide) rfl rfl ?_
        refine V_aload_n dX7_opens_71 rfl ?_
        refine VM_getiE 19 (g 19 0) dX7_opens_72 q2625 (by decide) rfl rfl ?_
        refine VM_c2 (M' := mX7_newScopeBy) okX7_newScopeBy rfl dX7_opens_75 q2808 rfl rfl (Nat.le_of_ble_eq_true rfl) (d' := 2) (b1 := 0) (by decide) (by decide) (c_X7_newScopeBy hB hr_g (by first | omega | exact hr_g _ _ | decide) (by first | omega | exact hr_g _ _ | decide) (by first | omega | (simp [gup, aup]; omega)) ?_)
        refine V_istore_n dX7_opens_78 (by decide) ?_
        refine V_iload_n dX7_opens_79 rfl ?_
        refine V_bipush dX7_opens_80 (by decide) ?_
        refine V_icmp_ne 148 dX7_opens_82 (by decide) (by first | omega | exact hr_g _ _ | decide) (by first | omega | exact hr_g _ _ | decide) (fun c_82 => by exfalso; omega) (fun c_82 => ?_)
        refine V_aload_n dX7_opens_85 rfl ?_
        refine V_aload_n dX7_opens_86 rfl ?_
        refine VM_getiE 27 (g 27 0) dX7_opens_87 q2633 (by decide) rfl rfl ?_
        refine V_bipush dX7_opens_90 (by decide) ?_
        refine V_icmp_ge 99 dX7_opens_92 (by decide) (by first | omega | exact hr_g _ _ | decide) (by first | omega | exact hr_g _ _ | decide) (fun c_92 => ?_) (fun c_92 => by exfalso; omega)
        refine V_iconst dX7_opens_99 ?_
        refine VM_v1 (M' := mX7_due) okX7_due rfl dX7_opens_100 q2796 rfl rfl (Nat.le_of_ble_eq_true rfl) (d' := 1) (b1 := 0) (by decide) (by decide) (c_X7_due0 hB hr_g (by first | omega | (simp [gup, aup]; omega)) ?_)
        exact c_opens103 hB (Rng.up (v := g 17 0) hr_g (by first | omega | exact hr_g _ _ | decide)) (by simp [gup, aup]; omega) K
    · rw [pIf_f hk] at K
      refine V_aload_n dX7_opens_22 rfl ?_
      refine V_aload_n dX7_opens_23 rfl ?_
      refine VM_getiE 18 (g 18 0) dX7_opens_24 q2624 (by decide) rfl rfl ?_
      refine V_iconst dX7_opens_27 ?_
      refine V_icmp_ne 52 dX7_opens_28 (by decide) (by first | omega | exact hr_g _ _ | decide) (by first | omega | exact hr_g _ _ | decide) (fun c_28 => by exfalso; omega) (fun c_28 => ?_)
      refine V_aload_n dX7_opens_31 rfl ?_
      refine V_aload_n dX7_opens_32 rfl ?_
      refine VM_getiE 30 (g 30 0) dX7_opens_33 q2636 (by decide) rfl rfl ?_
      refine V_aload_n dX7_opens_36 rfl ?_
      refine VM_getiE 19 (g 19 0) dX7_opens_37 q2625 (by decide) rfl rfl ?_
      refine VM_c2 (M' := mX7_newNodeBy) okX7_newNodeBy rfl dX7_opens_40 q2804 rfl rfl (Nat.le_of_ble_eq_true rfl) (d' := 2) (b1 := 0) (by decide) (by decide) (c_X7_newNodeBy hB hr_g (by first | omega | exact hr_g _ _ | decide) (by first | omega | exact hr_g _ _ | decide) (by first | omega | (simp [gup, aup]; omega)) ?_)
      refine V_bipush dX7_opens_43 (by decide) ?_
      refine V_icmp_ne 52 dX7_opens_45 (by decide) (by first | omega | exact hr_g _ _ | decide) (by first | omega | exact hr_g _ _ | decide) (fun c_45 => by exfalso; omega) (fun c_45 => ?_)
      refine V_iconst dX7_opens_48 ?_
      refine V_goto 53 dX7_opens_49 (by decide) ?_
      refine VM_v1 (M' := mX7_due) okX7_due rfl dX7_opens_53 q2796 rfl rfl (Nat.le_of_ble_eq_true rfl) (d' := 1) (b1 := 0) (by decide) (by decide) (c_X7_due1 hB hr_g ?_)
      refine V_aload_n dX7_opens_56 rfl ?_
      refine VM_getiE 20 (g 20 0) dX7_opens_57 q2626 (by decide) rfl rfl ?_
      refine V_bipush dX7_opens_60 (by decide) ?_
      refine V_icmp_eq 66 dX7_opens_62 (by decide) (by first | omega | exact hr_g _ _ | decide) (by first | omega | exact hr_g _ _ | decide) (fun c_62 => ?_) (fun c_62 => by exfalso; omega)
      refine V_aload_n dX7_opens_66 rfl ?_
      refine V_aload_n dX7_opens_67 rfl ?_
      refine VM_getiE 30 (g 30 0) dX7_opens_68 q2636 (by decide) rfl rfl ?_
      refine V_aload_n dX7_opens_71 rfl ?_
      refine VM_getiE 19 (g 19 0) dX7_opens_72 q2625 (by decide) rfl rfl ?_
      refine VM_c2 (M' := mX7_newScopeBy) okX7_newScopeBy rfl dX7_opens_75 q2808 rfl rfl (Nat.le_of_ble_eq_true rfl) (d' := 2) (b1 := 0) (by decide) (by decide) (c_X7_newScopeBy hB hr_g (by first | omega | exact hr_g _ _ | decide) (by first | omega | exact hr_g _ _ | decide) (by first | omega | (simp [gup, aup]; omega)) ?_)
      refine V_istore_n dX7_opens_78 (by decide) ?_
      refine V_iload_n dX7_opens_79 rfl ?_
      refine V_bipush dX7_opens_80 (by decide) ?_
      refine V_icmp_ne 148 dX7_opens_82 (by decide) (by first | omega | exact hr_g _ _ | decide) (by first | omega | exact hr_g _ _ | decide) (fun c_82 => ?_) (fun c_82 => by exfalso; omega)
      refine V_aload_n dX7_opens_148 rfl ?_
      refine V_iload_n dX7_opens_149 rfl ?_
      refine VM_puti 30 dX7_opens_150 q2636 (by decide) rfl rfl mfs30 mna30 ?_
      refine V_aload_n dX7_opens_153 rfl ?_
      refine V_dup dX7_opens_154 rfl ?_
      refine VM_getiE 31 (g 31 0) dX7_opens_155 q2637 (by decide) rfl rfl ?_
      refine V_iconst dX7_opens_158 ?_
      refine V_iadd dX7_opens_159 ?_
      refine VM_puti 31 dX7_opens_160 q2637 (by decide) rfl rfl mfs31 mna31 ?_
      refine V_aload_n dX7_opens_163 rfl ?_
      refine VM_v0 (M' := mX7_next) okX7_next rfl dX7_opens_164 q2773 rfl rfl (Nat.le_of_ble_eq_true rfl) (d' := 3) (b1 := 0) (by decide) (by decide) (c_X7_next hB (Rng.up (v := (g 31 0) + 1) (Rng.up (v := nSB g (g 30 0) (g 19 0)) hr_g (by first | omega | exact hr_g _ _ | decide)) (by first | omega | exact hr_g _ _ | decide)) (by first | omega | (simp [gup, aup]; omega)) ?_)
      exact V_vret dX7_opens_167 rfl (by exact K)
  · rw [pIf_t hc] at K
    refine V_aload_n dX7_opens_22 rfl ?_
    refine V_aload_n dX7_opens_23 rfl ?_
    refine VM_getiE 18 (g 18 0) dX7_opens_24 q2624 (by decide) rfl rfl ?_
    refine V_iconst dX7_opens_27 ?_
    refine V_icmp_ne 52 dX7_opens_28 (by decide) (by first | omega | exact hr_g _ _ | decide) (by first | omega | exact hr_g _ _ | decide) (fun c_28 => ?_) (fun c_28 => ?_)
    · refine V_iconst dX7_opens_52 ?_
      refine VM_v1 (M' := mX7_due) okX7_due rfl dX7_opens_53 q2796 rfl rfl (Nat.le_of_ble_eq_true rfl) (d' := 1) (b1 := 0) (by decide) (by decide) (c_X7_due0 hB hr_g (by first | omega | (simp [gup, aup]; omega)) ?_)
      exact c_opens56 hB (Rng.up (v := g 17 0) hr_g (by first | omega | exact hr_g _ _ | decide)) (by simp [gup, aup]; omega) K
    · refine V_aload_n dX7_opens_31 rfl ?_
      refine V_aload_n dX7_opens_32 rfl ?_
      refine VM_getiE 30 (g 30 0) dX7_opens_33 q2636 (by decide) rfl rfl ?_
      refine V_aload_n dX7_opens_36 rfl ?_
      refine VM_getiE 19 (g 19 0) dX7_opens_37 q2625 (by decide) rfl rfl ?_
      refine VM_c2 (M' := mX7_newNodeBy) okX7_newNodeBy rfl dX7_opens_40 q2804 rfl rfl (Nat.le_of_ble_eq_true rfl) (d' := 2) (b1 := 0) (by decide) (by decide) (c_X7_newNodeBy hB hr_g (by first | omega | exact hr_g _ _ | decide) (by first | omega | exact hr_g _ _ | decide) (by first | omega | (simp [gup, aup]; omega)) ?_)
      refine V_bipush dX7_opens_43 (by decide) ?_
      refine V_icmp_ne 52 dX7_opens_45 (by decide) (by first | omega | exact hr_g _ _ | decide) (by first | omega | exact hr_g _ _ | decide) (fun c_45 => ?_) (fun c_45 => ?_)
      · refine V_iconst dX7_opens_52 ?_
        refine VM_v1 (M' := mX7_due) okX7_due rfl dX7_opens_53 q2796 rfl rfl (Nat.le_of_ble_eq_true rfl) (d' := 1) (b1 := 0) (by decide) (by decide) (c_X7_due0 hB hr_g (by first | omega | (simp [gup, aup]; omega)) ?_)
        exact c_opens56 hB (Rng.up (v := g 17 0) hr_g (by first | omega | exact hr_g _ _ | decide)) (by simp [gup, aup]; omega) K
      · refine V_iconst dX7_opens_48 ?_
        refine V_goto 53 dX7_opens_49 (by decide) ?_
        refine VM_v1 (M' := mX7_due) okX7_due rfl dX7_opens_53 q2796 rfl rfl (Nat.le_of_ble_eq_true rfl) (d' := 1) (b1 := 0) (by decide) (by decide) (c_X7_due1 hB hr_g ?_)
        refine V_aload_n dX7_opens_56 rfl ?_
        refine VM_getiE 20 (g 20 0) dX7_opens_57 q2626 (by decide) rfl rfl ?_
        refine V_bipush dX7_opens_60 (by decide) ?_
        refine V_icmp_eq 66 dX7_opens_62 (by decide) (by first | omega | exact hr_g _ _ | decide) (by first | omega | exact hr_g _ _ | decide) (fun c_62 => ?_) (fun c_62 => by exfalso; omega)
        exfalso; omega
        skip
theorem c_X7_opens (hB : MB am B) (hI : PI g) (hf : g 20 0 = -9) (hd : 0 ≤ g 31 0 ∧ g 31 0 ≤ 4) (K : Q .null (mkM am B h0 (pOpens g))) : V E mX7_opens 5 0 0 [some (.ref am), none] [] (mkM am B h0 g) Q X := by
  have hI' := hI
  obtain ⟨hr_g, h2, h3, h4, h5, h6⟩ := hI
  unfold pOpens at K
  by_cases hc : g 31 0 < 4
  · rw [pIf_f (by simpa using hc)] at K
    refine V_aload_n dX7_opens_0 rfl ?_
    refine V_aload_n dX7_opens_1 rfl ?_
    refine VM_getiE 31 (g 31 0) dX7_opens_2 q2637 (by decide) rfl rfl ?_
    refine V_iconst dX7_opens_5 ?_
    refine V_icmp_ge 13 dX7_opens_6 (by decide) (by first | omega | exact hr_g _ _ | decide) (by first | omega | exact hr_g _ _ | decide) (fun c_6 => by exfalso; omega) (fun c_6 => ?_)
    refine V_iconst dX7_opens_9 ?_
    refine V_goto 14 dX7_opens_10 (by decide) ?_
    refine VM_v1 (M' := mX7_due) okX7_due rfl dX7_opens_14 q2796 rfl rfl (Nat.le_of_ble_eq_true rfl) (d' := 1) (b1 := 0) (by decide) (by decide) (c_X7_due1 hB hr_g ?_)
    refine V_aload_n dX7_opens_17 rfl ?_
    refine V_iconst dX7_opens_18 ?_
    refine VM_v1 (M' := mX7_passes) okX7_passes rfl dX7_opens_19 q2800 rfl rfl (Nat.le_of_ble_eq_true rfl) (d' := 4) (b1 := 0) (by decide) (by decide) (c_X7_passes1 hB hr_g (by first | omega | (simp [gup, aup]; omega)) (by first | omega | (simp [gup, aup]; omega)) ?_)
    exact c_opens22 hB hI'.next (by rw [pN_ne (by omega)]; exact hf) (by rw [pN_ne (k := 31) (by omega)]; exact hd) K
  · rw [pIf_t hc] at K
    refine V_aload_n dX7_opens_0 rfl ?_
    refine V_aload_n dX7_opens_1 rfl ?_
    refine VM_getiE 31 (g 31 0) dX7_opens_2 q2637 (by decide) rfl rfl ?_
    refine V_iconst dX7_opens_5 ?_
    refine V_icmp_ge 13 dX7_opens_6 (by decide) (by first | omega | exact hr_g _ _ | decide) (by first | omega | exact hr_g _ _ | decide) (fun c_6 => ?_) (fun c_6 => by exfalso; omega)
    refine V_iconst dX7_opens_13 ?_
    refine VM_v1 (M' := mX7_due) okX7_due rfl dX7_opens_14 q2796 rfl rfl (Nat.le_of_ble_eq_true rfl) (d' := 1) (b1 := 0) (by decide) (by decide) (c_X7_due0 hB hr_g (by first | omega | (simp [gup, aup]; omega)) ?_)
    exact c_opens17 hB hI'.fault (by simp [pFault, gup, aup]; omega) K
theorem c_X7_closes (hB : MB am B) (hI : PI g) (hf : g 20 0 = -9) (hd : 0 ≤ g 31 0 ∧ g 31 0 ≤ 4) (K : Q .null (mkM am B h0 (pCloses g))) : V E mX7_closes 5 0 0 [some (.ref am)] [] (mkM am B h0 g) Q X := by
  obtain ⟨hr_g, h2, h3, h4, h5, h6⟩ := hI
  unfold pCloses at K
  by_cases hc : g 30 0 = -9
  · rw [pIf_t hc] at K
    refine V_aload_n dX7_closes_0 rfl ?_
    refine V_aload_n dX7_closes_1 rfl ?_
    refine VM_getiE 30 (g 30 0) dX7_closes_2 q2636 (by decide) rfl rfl ?_
    refine V_bipush dX7_closes_5 (by decide) ?_
    refine V_icmp_eq 14 dX7_closes_7 (by decide) (by first | omega | exact hr_g _ _ | decide) (by first | omega | exact hr_g _ _ | decide) (fun c_7 => ?_) (fun c_7 => by exfalso; omega)
    refine V_iconst dX7_closes_14 ?_
    refine VM_v1 (M' := mX7_due) okX7_due rfl dX7_closes_15 q2796 rfl rfl (Nat.le_of_ble_eq_true rfl) (d' := 1) (b1 := 0) (by decide) (by decide) (c_X7_due0 hB hr_g (by first | omega | (simp [gup, aup]; omega)) ?_)
    refine V_aload_n dX7_closes_18 rfl ?_
    refine VM_getiE 20 (g 17 0) dX7_closes_19 q2626 (by decide) rfl rfl ?_
    refine V_bipush dX7_closes_22 (by decide) ?_
    refine V_icmp_ne 54 dX7_closes_24 (by decide) (by first | omega | exact hr_g _ _ | decide) (by first | omega | exact hr_g _ _ | decide) (fun c_24 => ?_) (fun c_24 => by exfalso; omega)
    exact V_vret dX7_closes_54 rfl (by exact K)
  · rw [pIf_f hc] at K
    refine V_aload_n dX7_closes_0 rfl ?_
    refine V_aload_n dX7_closes_1 rfl ?_
    refine VM_getiE 30 (g 30 0) dX7_closes_2 q2636 (by decide) rfl rfl ?_
    refine V_bipush dX7_closes_5 (by decide) ?_
    refine V_icmp_eq 14 dX7_closes_7 (by decide) (by first | omega | exact hr_g _ _ | decide) (by first | omega | exact hr_g _ _ | decide) (fun c_7 => by exfalso; omega) (fun c_7 => ?_)
    refine V_iconst dX7_closes_10 ?_
    refine V_goto 15 dX7_closes_11 (by decide) ?_
    refine VM_v1 (M' := mX7_due) okX7_due rfl dX7_closes_15 q2796 rfl rfl (Nat.le_of_ble_eq_true rfl) (d' := 1) (b1 := 0) (by decide) (by decide) (c_X7_due1 hB hr_g ?_)
    refine V_aload_n dX7_closes_18 rfl ?_
    refine VM_getiE 20 (g 20 0) dX7_closes_19 q2626 (by decide) rfl rfl ?_
    refine V_bipush dX7_closes_22 (by decide) ?_
    refine V_icmp_ne 54 dX7_closes_24 (by decide) (by first | omega | exact hr_g _ _ | decide) (by first | omega | exact hr_g _ _ | decide) (fun c_24 => by exfalso; omega) (fun c_24 => ?_)
    refine V_aload_n dX7_closes_27 rfl ?_
    refine V_aload_n dX7_closes_28 rfl ?_
    refine VM_geta 25 dX7_closes_29 q2631 (by decide) rfl ?_
    refine V_aload_n dX7_closes_32 rfl ?_
    refine VM_getiE 30 (g 30 0) dX7_closes_33 q2636 (by decide) rfl rfl ?_
    refine VM_ialdE 25 (g 25 (g 30 0)) hB dX7_closes_36 mar25 rfl (by first | omega | (simp [gup, aup]; omega)) (by show _ < (6 : Int); first | omega | (simp [gup, aup]; omega)) (by decide) rfl ?_
    refine VM_puti 30 dX7_closes_37 q2636 (by decide) rfl rfl mfs30 mna30 ?_
    refine V_aload_n dX7_closes_40 rfl ?_
    refine V_dup dX7_closes_41 rfl ?_
    refine VM_getiE 31 (g 31 0) dX7_closes_42 q2637 (by decide) rfl rfl ?_
    refine V_iconst dX7_closes_45 ?_
    refine V_isub dX7_closes_46 ?_
    refine VM_puti 31 dX7_closes_47 q2637 (by decide) rfl rfl mfs31 mna31 ?_
    refine V_aload_n dX7_closes_50 rfl ?_
    refine VM_v0 (M' := mX7_next) okX7_next rfl dX7_closes_51 q2773 rfl rfl (Nat.le_of_ble_eq_true rfl) (d' := 3) (b1 := 0) (by decide) (by decide) (c_X7_next hB (Rng.up (v := (g 31 0) - 1) (Rng.up (v := g 25 (g 30 0)) hr_g (by first | omega | exact hr_g _ _ | decide)) (by first | omega | exact hr_g _ _ | decide)) (by first | omega | (simp [gup, aup]; omega)) ?_)
    exact V_vret dX7_closes_54 rfl (by exact K)
end M3
