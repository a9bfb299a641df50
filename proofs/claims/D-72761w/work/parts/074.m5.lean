/-! THE REFERENCE'S METHODS, part 5: an expression's steps -/
def pEmit (g : MG) (w x : Int) : MG := gup (gup (gup g 28 (40 * g 24 0 + 2 * g 29 (g 24 0)) w) 28 (40 * g 24 0 + 2 * g 29 (g 24 0) + 1) x) 29 (g 24 0) (g 29 (g 24 0) + 1)
def pWaits (g : MG) (x : Int) : MG := gup (gup g 32 (g 33 0) x) 33 0 (g 33 0 + 1)
/-- an expression's numbers: c is 1 behind a term -/
def EI (c : Int) (g : MG) : Prop := PI g ∧ (0 ≤ g 24 0 ∧ g 24 0 ≤ 3) ∧ 0 ≤ g 29 (g 24 0) ∧ 0 ≤ g 33 0 ∧ (0 ≤ g 34 0 ∧ g 34 0 ≤ 6) ∧ (0 ≤ g 35 0 ∧ g 35 0 ≤ 6) ∧ g 29 (g 24 0) + g 33 0 ≤ 2 * g 34 0 + g 35 0 - c ∧ g 33 0 ≤ g 34 0 + g 35 0 - c
noncomputable def pNots : Nat → MG → MG
  | 0, g => g
  | k + 1, g => pIf (0 < g 33 0 ∧ g 32 (g 33 0 - 1) = 33) (pNots k (pEmit (gup g 33 0 (g 33 0 - 1)) 2 0)) g
noncomputable def pWhole2 (g : MG) : MG := pIf (0 < g 33 0 ∧ g 32 (g 33 0 - 1) ≠ 40) (pEmit (gup g 33 0 (g 33 0 - 1)) 3 (g 32 (g 33 0 - 1))) g
noncomputable def pWhole (g : MG) : MG := pWhole2 (pNots 20 g)
def pBt (g : MG) : Prop := g 18 0 = 3 ∧ (g 19 0 = 38 ∨ g 19 0 = 124 ∨ g 19 0 = 94 ∨ g 19 0 = 43 ∨ g 19 0 = 45)
theorem PI.up {g : MG} (h : PI g) {k : Nat} {i v : Int} (hk : k = 28 ∨ k = 29 ∨ k = 32 ∨ k = 33 ∨ k = 34 ∨ k = 35 ∨ k = 21 ∨ k = 23 ∨ k = 24) (hv : inr v) : PI (gup g k i v) := by
  obtain ⟨h1, h2, h3, h4, h5, h6, h7⟩ := h
  refine ⟨h1.up hv, ?_⟩
  rw [gup_ne (k := k) (k' := 16) (by omega), gup_ne (k := k) (k' := 15) (by omega), gup_ne (k := k) (k' := 22) (by omega), gup_ne (k := k) (k' := 27) (by omega), gup_ne (k := k) (k' := 17) (by omega), gup_ne (k := k) (k' := 30) (by omega), gup_ne (k := k) (k' := 25) (by omega)]
  exact ⟨h2, h3, h4, h5, h6, h7⟩
theorem pE_ne {g : MG} {w x : Int} {k : Nat} (h : k ≠ 28 ∧ k ≠ 29) : pEmit g w x k = g k := by
  unfold pEmit; rw [gup_ne h.2, gup_ne h.1, gup_ne h.1]
theorem pW_ne {g : MG} {x : Int} {k : Nat} (h : k ≠ 32 ∧ k ≠ 33) : pWaits g x k = g k := by
  unfold pWaits; rw [gup_ne h.2, gup_ne h.1]
theorem PI.emit {g : MG} (h : PI g) {w x : Int} (hw : inr w) (hx : inr x) (hm : inr (g 29 (g 24 0) + 1)) : PI (pEmit g w x) := by
  unfold pEmit
  exact ((h.up (by omega) hw).up (by omega) hx).up (by omega) hm
/-- something that waited is emitted -/
theorem EI.pop {c : Int} {g : MG} (h : EI c g) (hp : 0 < g 33 0) (hc : 0 ≤ c) {w x : Int} (hw : inr w) (hx : inr x) : EI c (pEmit (gup g 33 0 (g 33 0 - 1)) w x) := by
  obtain ⟨h1, h2, h3, h4, h5, h6, h7, h8⟩ := h
  have e24 : pEmit (gup g 33 0 (g 33 0 - 1)) w x 24 0 = g 24 0 := by rw [pE_ne (by omega), gup_ne (by omega)]
  refine ⟨(h1.up (by omega) ⟨by omega, by omega⟩).emit hw hx ?_, ?_⟩
  · simp only [gup_rd]; simp; omega
  · rw [e24, pE_ne (k := 33) (by omega), pE_ne (k := 34) (by omega), pE_ne (k := 35) (by omega)]
    have e29 : pEmit (gup g 33 0 (g 33 0 - 1)) w x 29 (g 24 0) = g 29 (g 24 0) + 1 := by
      unfold pEmit; simp [gup_rd]
    rw [e29]
    simp only [gup_rd]
    simp
    omega
section M5
variable {E : Ev} {am : Nat} {B : Nat → Nat} {h0 h : AH} {g : MG} {Q : Value → AH → Prop} {X : Nat → AH → Prop}
theorem c_X7_emits (hB : MB am B) (hr_g : Rng g) {w x : Int} (hw : inr w) (hx : inr x) (hd : 0 ≤ g 24 0 ∧ g 24 0 ≤ 3) (hk : 0 ≤ g 29 (g 24 0) ∧ g 29 (g 24 0) ≤ 18) (K : Q .null (mkM am B h0 (pEmit g w x))) : V E mX7_emits 1 0 0 [some (.ref am), some (vI w), some (vI x), none] [] (mkM am B h0 g) Q X := by
  refine V_aload_n dX7_emits_0 rfl ?_
  refine VM_geta 29 dX7_emits_1 q2635 (by decide) rfl ?_
  refine V_aload_n dX7_emits_4 rfl ?_
  refine VM_getiE 24 (g 24 0) dX7_emits_5 q2630 (by decide) rfl rfl ?_
  refine VM_ialdE 29 (g 29 (g 24 0)) hB dX7_emits_8 mar29 rfl (by first | omega | (simp [gup, aup]; omega)) (by show _ < (4 : Int); first | omega | (simp [gup, aup]; omega)) (by decide) rfl ?_
  refine V_istore_n dX7_emits_9 (by decide) ?_
  refine V_aload_n dX7_emits_10 rfl ?_
  refine VM_geta 28 dX7_emits_11 q2634 (by decide) rfl ?_
  refine V_bipush dX7_emits_14 (by decide) ?_
  refine V_aload_n dX7_emits_16 rfl ?_
  refine VM_getiE 24 (g 24 0) dX7_emits_17 q2630 (by decide) rfl rfl ?_
  refine V_imul dX7_emits_20 ?_
  refine V_iconst dX7_emits_21 ?_
  refine V_iload_n dX7_emits_22 rfl ?_
  refine V_imul dX7_emits_23 ?_
  refine V_iadd dX7_emits_24 ?_
  refine V_iload_n dX7_emits_25 rfl ?_
  refine VM_iast 28 hB dX7_emits_26 mar28 rfl mfa28 (by first | omega | (simp [gup, aup]; omega)) (by show _ < (160 : Int); first | omega | (simp [gup, aup]; omega)) (by decide) ?_
  refine V_aload_n dX7_emits_27 rfl ?_
  refine VM_geta 28 dX7_emits_28 q2634 (by decide) rfl ?_
  refine V_bipush dX7_emits_31 (by decide) ?_
  refine V_aload_n dX7_emits_33 rfl ?_
  refine VM_getiE 24 (g 24 0) dX7_emits_34 q2630 (by decide) rfl rfl ?_
  refine V_imul dX7_emits_37 ?_
  refine V_iconst dX7_emits_38 ?_
  refine V_iload_n dX7_emits_39 rfl ?_
  refine V_imul dX7_emits_40 ?_
  refine V_iadd dX7_emits_41 ?_
  refine V_iconst dX7_emits_42 ?_
  refine V_iadd dX7_emits_43 ?_
  refine V_iload_n dX7_emits_44 rfl ?_
  refine VM_iast 28 hB dX7_emits_45 mar28 rfl mfa28 (by first | omega | (simp [gup, aup]; omega)) (by show _ < (160 : Int); first | omega | (simp [gup, aup]; omega)) (by decide) ?_
  refine V_aload_n dX7_emits_46 rfl ?_
  refine VM_geta 29 dX7_emits_47 q2635 (by decide) rfl ?_
  refine V_aload_n dX7_emits_50 rfl ?_
  refine VM_getiE 24 (g 24 0) dX7_emits_51 q2630 (by decide) rfl rfl ?_
  refine V_dup2 dX7_emits_54 rfl rfl ?_
  refine VM_ialdE 29 (g 29 (g 24 0)) hB dX7_emits_55 mar29 rfl (by first | omega | (simp [gup, aup]; omega)) (by show _ < (4 : Int); first | omega | (simp [gup, aup]; omega)) (by decide) rfl ?_
  refine V_iconst dX7_emits_56 ?_
  refine V_iadd dX7_emits_57 ?_
  refine VM_iast 29 hB dX7_emits_58 mar29 rfl mfa29 (by first | omega | (simp [gup, aup]; omega)) (by show _ < (4 : Int); first | omega | (simp [gup, aup]; omega)) (by decide) ?_
  exact V_vret dX7_emits_59 rfl (by exact K)
theorem c_X7_waitsFor (hB : MB am B) (hr_g : Rng g) {x : Int} (hx : inr x) (hk : 0 ≤ g 33 0 ∧ g 33 0 ≤ 15) (K : Q .null (mkM am B h0 (pWaits g x))) : V E mX7_waitsFor 1 0 0 [some (.ref am), some (vI x)] [] (mkM am B h0 g) Q X := by
  refine V_aload_n dX7_waitsFor_0 rfl ?_
  refine VM_geta 32 dX7_waitsFor_1 q2638 (by decide) rfl ?_
  refine V_aload_n dX7_waitsFor_4 rfl ?_
  refine VM_getiE 33 (g 33 0) dX7_waitsFor_5 q2639 (by decide) rfl rfl ?_
  refine V_iload_n dX7_waitsFor_8 rfl ?_
  refine VM_iast 32 hB dX7_waitsFor_9 mar32 rfl mfa32 (by first | omega | (simp [gup, aup]; omega)) (by show _ < (16 : Int); first | omega | (simp [gup, aup]; omega)) (by decide) ?_
  refine V_aload_n dX7_waitsFor_10 rfl ?_
  refine V_dup dX7_waitsFor_11 rfl ?_
  refine VM_getiE 33 (g 33 0) dX7_waitsFor_12 q2639 (by decide) rfl rfl ?_
  refine V_iconst dX7_waitsFor_15 ?_
  refine V_iadd dX7_waitsFor_16 ?_
  refine VM_puti 33 dX7_waitsFor_17 q2639 (by decide) rfl rfl mfs33 mna33 ?_
  exact V_vret dX7_waitsFor_20 rfl (by exact K)
theorem c_X7_isBetween (hB : MB am B) (hr_g : Rng g) (Kt : pBt g → Q (vI 1) (mkM am B h0 g)) (Kf : ¬ pBt g → Q (vI 0) (mkM am B h0 g)) : V E mX7_isBetween 2 0 0 [some (.ref am)] [] (mkM am B h0 g) Q X := by
  refine V_aload_n dX7_isBetween_0 rfl ?_
  refine V_bipush dX7_isBetween_1 (by decide) ?_
  refine VM_c1 (M' := mX7_is) okX7_is rfl dX7_isBetween_3 q2788 rfl rfl (Nat.le_of_ble_eq_true rfl) (d' := 1) (b1 := 0) (by decide) (by decide) (c_X7_is hB hr_g (by first | omega | exact hr_g _ _ | decide) (fun c_3 => ?_) (fun c_3 => ?_))
  · refine V_if_ne 45 dX7_isBetween_6 (by decide) (by first | omega | exact hr_g _ _ | decide) (fun c_6 => ?_) (fun c_6 => absurd c_6 (by decide))
    refine V_iconst dX7_isBetween_45 ?_
    refine V_goto 50 dX7_isBetween_46 (by decide) ?_
    exact V_zret dX7_isBetween_50 rfl (by first | decide | omega) (by first | exact Kt (by unfold pBt; omega) | exact Kf (by unfold pBt; omega))
  · refine V_if_ne 45 dX7_isBetween_6 (by decide) (by first | omega | exact hr_g _ _ | decide) (fun c_6 => absurd c_6 (by decide)) (fun c_6 => ?_)
    refine V_aload_n dX7_isBetween_9 rfl ?_
    refine V_bipush dX7_isBetween_10 (by decide) ?_
    refine VM_c1 (M' := mX7_is) okX7_is rfl dX7_isBetween_12 q2788 rfl rfl (Nat.le_of_ble_eq_true rfl) (d' := 1) (b1 := 0) (by decide) (by decide) (c_X7_is hB hr_g (by first | omega | exact hr_g _ _ | decide) (fun c_12 => ?_) (fun c_12 => ?_))
    · refine V_if_ne 45 dX7_isBetween_15 (by decide) (by first | omega | exact hr_g _ _ | decide) (fun c_15 => ?_) (fun c_15 => absurd c_15 (by decide))
      refine V_iconst dX7_isBetween_45 ?_
      refine V_goto 50 dX7_isBetween_46 (by decide) ?_
      exact V_zret dX7_isBetween_50 rfl (by first | decide | omega) (by first | exact Kt (by unfold pBt; omega) | exact Kf (by unfold pBt; omega))
    · refine V_if_ne 45 dX7_isBetween_15 (by decide) (by first | omega | exact hr_g _ _ | decide) (fun c_15 => absurd c_15 (by decide)) (fun c_15 => ?_)
      refine V_aload_n dX7_isBetween_18 rfl ?_
      refine V_bipush dX7_isBetween_19 (by decide) ?_
      refine VM_c1 (M' := mX7_is) okX7_is rfl dX7_isBetween_21 q2788 rfl rfl (Nat.le_of_ble_eq_true rfl) (d' := 1) (b1 := 0) (by decide) (by decide) (c_X7_is hB hr_g (by first | omega | exact hr_g _ _ | decide) (fun c_21 => ?_) (fun c_21 => ?_))
      · refine V_if_ne 45 dX7_isBetween_24 (by decide) (by first | omega | exact hr_g _ _ | decide) (fun c_24 => ?_) (fun c_24 => absurd c_24 (by decide))
        refine V_iconst dX7_isBetween_45 ?_
        refine V_goto 50 dX7_isBetween_46 (by decide) ?_
        exact V_zret dX7_isBetween_50 rfl (by first | decide | omega) (by first | exact Kt (by unfold pBt; omega) | exact Kf (by unfold pBt; omega))
      · refine V_if_ne 45 dX7_isBetween_24 (by decide) (by first | omega | exact hr_g _ _ | decide) (fun c_24 => absurd c_24 (by decide)) (fun c_24 => ?_)
        refine V_aload_n dX7_isBetween_27 rfl ?_
        refine V_bipush dX7_isBetween_28 (by decide) ?_
        refine VM_c1 (M' := mX7_is) okX7_is rfl dX7_isBetween_30 q2788 rfl rfl (Nat.le_of_ble_eq_true rfl) (d' := 1) (b1 := 0) (by decide) (by decide) (c_X7_is hB hr_g (by first | omega | exact hr_g _ _ | decide) (fun c_30 => ?_) (fun c_30 => ?_))
        · refine V_if_ne 45 dX7_isBetween_33 (by decide) (by first | omega | exact hr_g _ _ | decide) (fun c_33 => ?_) (fun c_33 => absurd c_33 (by decide))
          refine V_iconst dX7_isBetween_45 ?_
          refine V_goto 50 dX7_isBetween_46 (by decide) ?_
          exact V_zret dX7_isBetween_50 rfl (by first | decide | omega) (by first | exact Kt (by unfold pBt; omega) | exact Kf (by unfold pBt; omega))
        · refine V_if_ne 45 dX7_isBetween_33 (by decide) (by first | omega | exact hr_g _ _ | decide) (fun c_33 => absurd c_33 (by decide)) (fun c_33 => ?_)
          refine V_aload_n dX7_isBetween_36 rfl ?_
          refine V_bipush dX7_isBetween_37 (by decide) ?_
          refine VM_c1 (M' := mX7_is) okX7_is rfl dX7_isBetween_39 q2788 rfl rfl (Nat.le_of_ble_eq_true rfl) (d' := 1) (b1 := 0) (by decide) (by decide) (c_X7_is hB hr_g (by first | omega | exact hr_g _ _ | decide) (fun c_39 => ?_) (fun c_39 => ?_))
          · refine V_if_eq 49 dX7_isBetween_42 (by decide) (by first | omega | exact hr_g _ _ | decide) (fun c_42 => absurd c_42 (by decide)) (fun c_42 => ?_)
            refine V_iconst dX7_isBetween_45 ?_
            refine V_goto 50 dX7_isBetween_46 (by decide) ?_
            exact V_zret dX7_isBetween_50 rfl (by first | decide | omega) (by first | exact Kt (by unfold pBt; omega) | exact Kf (by unfold pBt; omega))
          · refine V_if_eq 49 dX7_isBetween_42 (by decide) (by first | omega | exact hr_g _ _ | decide) (fun c_42 => ?_) (fun c_42 => absurd c_42 (by decide))
            refine V_iconst dX7_isBetween_49 ?_
            exact V_zret dX7_isBetween_50 rfl (by first | decide | omega) (by first | exact Kt (by unfold pBt; omega) | exact Kf (by unfold pBt; omega))
theorem c_whole42 (hB : MB am B) {c : Int} (hI : EI c g) (hc : 0 ≤ c) (K : Q .null (mkM am B h0 (pWhole2 g))) : V E mX7_wholeTerm 2 0 42 [some (.ref am)] [] (mkM am B h0 g) Q X := by
  obtain ⟨⟨hr_g, -⟩, h2, h3, h4, h5, h6, h7, h8⟩ := hI
  unfold pWhole2 at K
  by_cases c1 : 0 < g 33 0 ∧ g 32 (g 33 0 - 1) ≠ 40
  · rw [pIf_t c1] at K
    refine V_aload_n dX7_wholeTerm_42 rfl ?_
    refine VM_getiE 33 (g 33 0) dX7_wholeTerm_43 q2639 (by decide) rfl rfl ?_
    refine V_if_le 89 dX7_wholeTerm_46 (by decide) (by first | omega | exact hr_g _ _ | decide) (fun c_46 => by exfalso; omega) (fun c_46 => ?_)
    refine V_aload_n dX7_wholeTerm_49 rfl ?_
    refine VM_geta 32 dX7_wholeTerm_50 q2638 (by decide) rfl ?_
    refine V_aload_n dX7_wholeTerm_53 rfl ?_
    refine VM_getiE 33 (g 33 0) dX7_wholeTerm_54 q2639 (by decide) rfl rfl ?_
    refine V_iconst dX7_wholeTerm_57 ?_
    refine V_isub dX7_wholeTerm_58 ?_
    refine VM_ialdE 32 (g 32 ((g 33 0) - 1)) hB dX7_wholeTerm_59 mar32 rfl (by first | omega | (simp [gup, aup]; omega)) (by show _ < (16 : Int); first | omega | (simp [gup, aup]; omega)) (by decide) rfl ?_
    refine V_bipush dX7_wholeTerm_60 (by decide) ?_
    refine V_icmp_eq 89 dX7_wholeTerm_62 (by decide) (by first | omega | exact hr_g _ _ | decide) (by first | omega | exact hr_g _ _ | decide) (fun c_62 => by exfalso; omega) (fun c_62 => ?_)
    refine V_aload_n dX7_wholeTerm_65 rfl ?_
    refine V_dup dX7_wholeTerm_66 rfl ?_
    refine VM_getiE 33 (g 33 0) dX7_wholeTerm_67 q2639 (by decide) rfl rfl ?_
    refine V_iconst dX7_wholeTerm_70 ?_
    refine V_isub dX7_wholeTerm_71 ?_
    refine VM_puti 33 dX7_wholeTerm_72 q2639 (by decide) rfl rfl mfs33 mna33 ?_
    refine V_aload_n dX7_wholeTerm_75 rfl ?_
    refine V_iconst dX7_wholeTerm_76 ?_
    refine V_aload_n dX7_wholeTerm_77 rfl ?_
    refine VM_geta 32 dX7_wholeTerm_78 q2638 (by decide) rfl ?_
    refine V_aload_n dX7_wholeTerm_81 rfl ?_
    refine VM_getiE 33 ((g 33 0) - 1) dX7_wholeTerm_82 q2639 (by decide) rfl rfl ?_
    refine VM_ialdE 32 (g 32 ((g 33 0) - 1)) hB dX7_wholeTerm_85 mar32 rfl (by first | omega | (simp [gup, aup]; omega)) (by show _ < (16 : Int); first | omega | (simp [gup, aup]; omega)) (by decide) rfl ?_
    refine VM_v2 (M' := mX7_emits) okX7_emits rfl dX7_wholeTerm_86 q2836 rfl rfl (Nat.le_of_ble_eq_true rfl) (d' := 1) (b1 := 0) (by decide) (by decide) (c_X7_emits hB (Rng.up (v := (g 33 0) - 1) hr_g (by first | omega | exact hr_g _ _ | decide)) (by first | omega | exact hr_g _ _ | decide) (by first | omega | exact hr_g _ _ | decide) (by first | omega | (simp [gup, aup]; omega)) (by first | omega | (simp [gup, aup]; omega)) ?_)
    exact V_vret dX7_wholeTerm_89 rfl (by exact K)
  · rw [pIf_f c1] at K
    refine V_aload_n dX7_wholeTerm_42 rfl ?_
    refine VM_getiE 33 (g 33 0) dX7_wholeTerm_43 q2639 (by decide) rfl rfl ?_
    refine V_if_le 89 dX7_wholeTerm_46 (by decide) (by first | omega | exact hr_g _ _ | decide) (fun c_46 => ?_) (fun c_46 => ?_)
    · exact V_vret dX7_wholeTerm_89 rfl (by exact K)
    · refine V_aload_n dX7_wholeTerm_49 rfl ?_
      refine VM_geta 32 dX7_wholeTerm_50 q2638 (by decide) rfl ?_
      refine V_aload_n dX7_wholeTerm_53 rfl ?_
      refine VM_getiE 33 (g 33 0) dX7_wholeTerm_54 q2639 (by decide) rfl rfl ?_
      refine V_iconst dX7_wholeTerm_57 ?_
      refine V_isub dX7_wholeTerm_58 ?_
      refine VM_ialdE 32 (g 32 ((g 33 0) - 1)) hB dX7_wholeTerm_59 mar32 rfl (by first | omega | (simp [gup, aup]; omega)) (by show _ < (16 : Int); first | omega | (simp [gup, aup]; omega)) (by decide) rfl ?_
      refine V_bipush dX7_wholeTerm_60 (by decide) ?_
      refine V_icmp_eq 89 dX7_wholeTerm_62 (by decide) (by first | omega | exact hr_g _ _ | decide) (by first | omega | exact hr_g _ _ | decide) (fun c_62 => ?_) (fun c_62 => ?_)
      · exact V_vret dX7_wholeTerm_89 rfl (by exact K)
      · exact absurd ⟨by omega, by omega⟩ c1
        skip
theorem c_whole0 (hB : MB am B) {c : Int} (hc : 0 ≤ c) : ∀ (k : Nat) (g : MG), EI c g → g 33 0 < k → Q .null (mkM am B h0 (pWhole2 (pNots k g))) → V E mX7_wholeTerm 2 0 0 [some (.ref am)] [] (mkM am B h0 g) Q X := by
  intro k
  induction k with
  | zero =>
    intro g hI hk
    have := hI.2.2.2.1
    omega
  | succ k ih =>
    intro g hI hk K
    have hI' := hI
    obtain ⟨⟨hr_g, -⟩, h2, h3, h4, h5, h6, h7, h8⟩ := hI
    unfold pNots at K
    by_cases c1 : 0 < g 33 0 ∧ g 32 (g 33 0 - 1) = 33
    · rw [pIf_t c1] at K
      refine V_aload_n dX7_wholeTerm_0 rfl ?_
      refine VM_getiE 33 (g 33 0) dX7_wholeTerm_1 q2639 (by decide) rfl rfl ?_
      refine V_if_le 42 dX7_wholeTerm_4 (by decide) (by first | omega | exact hr_g _ _ | decide) (fun c_4 => by exfalso; omega) (fun c_4 => ?_)
      refine V_aload_n dX7_wholeTerm_7 rfl ?_
      refine VM_geta 32 dX7_wholeTerm_8 q2638 (by decide) rfl ?_
      refine V_aload_n dX7_wholeTerm_11 rfl ?_
      refine VM_getiE 33 (g 33 0) dX7_wholeTerm_12 q2639 (by decide) rfl rfl ?_
      refine V_iconst dX7_wholeTerm_15 ?_
      refine V_isub dX7_wholeTerm_16 ?_
      refine VM_ialdE 32 (g 32 ((g 33 0) - 1)) hB dX7_wholeTerm_17 mar32 rfl (by first | omega | (simp [gup, aup]; omega)) (by show _ < (16 : Int); first | omega | (simp [gup, aup]; omega)) (by decide) rfl ?_
      refine V_bipush dX7_wholeTerm_18 (by decide) ?_
      refine V_icmp_ne 42 dX7_wholeTerm_20 (by decide) (by first | omega | exact hr_g _ _ | decide) (by first | omega | exact hr_g _ _ | decide) (fun c_20 => by exfalso; omega) (fun c_20 => ?_)
      refine V_aload_n dX7_wholeTerm_23 rfl ?_
      refine V_dup dX7_wholeTerm_24 rfl ?_
      refine VM_getiE 33 (g 33 0) dX7_wholeTerm_25 q2639 (by decide) rfl rfl ?_
      refine V_iconst dX7_wholeTerm_28 ?_
      refine V_isub dX7_wholeTerm_29 ?_
      refine VM_puti 33 dX7_wholeTerm_30 q2639 (by decide) rfl rfl mfs33 mna33 ?_
      refine V_aload_n dX7_wholeTerm_33 rfl ?_
      refine V_iconst dX7_wholeTerm_34 ?_
      refine V_iconst dX7_wholeTerm_35 ?_
      refine VM_v2 (M' := mX7_emits) okX7_emits rfl dX7_wholeTerm_36 q2836 rfl rfl (Nat.le_of_ble_eq_true rfl) (d' := 1) (b1 := 0) (by decide) (by decide) (c_X7_emits hB (Rng.up (v := (g 33 0) - 1) hr_g (by first | omega | exact hr_g _ _ | decide)) (by first | omega | exact hr_g _ _ | decide) (by first | omega | exact hr_g _ _ | decide) (by first | omega | (simp [gup, aup]; omega)) (by first | omega | (simp [gup, aup]; omega)) ?_)
      refine V_goto 0 dX7_wholeTerm_39 (by decide) ?_
      exact ih _ (hI'.pop c1.1 hc (by decide) (by decide)) (by rw [pE_ne (by omega)]; simp [gup, aup]; omega) K
    · rw [pIf_f c1] at K
      refine V_aload_n dX7_wholeTerm_0 rfl ?_
      refine VM_getiE 33 (g 33 0) dX7_wholeTerm_1 q2639 (by decide) rfl rfl ?_
      refine V_if_le 42 dX7_wholeTerm_4 (by decide) (by first | omega | exact hr_g _ _ | decide) (fun c_4 => ?_) (fun c_4 => ?_)
      · exact c_whole42 hB hI' hc K
      · refine V_aload_n dX7_wholeTerm_7 rfl ?_
        refine VM_geta 32 dX7_wholeTerm_8 q2638 (by decide) rfl ?_
        refine V_aload_n dX7_wholeTerm_11 rfl ?_
        refine VM_getiE 33 (g 33 0) dX7_wholeTerm_12 q2639 (by decide) rfl rfl ?_
        refine V_iconst dX7_wholeTerm_15 ?_
        refine V_isub dX7_wholeTerm_16 ?_
        refine VM_ialdE 32 (g 32 ((g 33 0) - 1)) hB dX7_wholeTerm_17 mar32 rfl (by first | omega | (simp [gup, aup]; omega)) (by show _ < (16 : Int); first | omega | (simp [gup, aup]; omega)) (by decide) rfl ?_
        refine V_bipush dX7_wholeTerm_18 (by decide) ?_
        refine V_icmp_ne 42 dX7_wholeTerm_20 (by decide) (by first | omega | exact hr_g _ _ | decide) (by first | omega | exact hr_g _ _ | decide) (fun c_20 => ?_) (fun c_20 => ?_)
        · exact c_whole42 hB hI' hc K
        · exact absurd ⟨by omega, by omega⟩ c1
          skip
theorem c_X7_wholeTerm (hB : MB am B) {c : Int} (hI : EI c g) (hc : 0 ≤ c) (K : Q .null (mkM am B h0 (pWhole g))) : V E mX7_wholeTerm 2 0 0 [some (.ref am)] [] (mkM am B h0 g) Q X :=
  c_whole0 hB hc 20 g hI (by obtain ⟨_, h2, h3, h4, h5, h6, h7, h8⟩ := hI; omega) K
theorem EI.nots {c : Int} (hc : 0 ≤ c) : ∀ (k : Nat) (g : MG), EI c g → EI c (pNots k g) := by
  intro k
  induction k with
  | zero => intro g h; exact h
  | succ k ih =>
    intro g h
    unfold pNots
    by_cases c1 : 0 < g 33 0 ∧ g 32 (g 33 0 - 1) = 33
    · rw [pIf_t c1]; exact ih _ (h.pop c1.1 hc (by decide) (by decide))
    · rw [pIf_f c1]; exact h
theorem EI.whole {c : Int} (hc : 0 ≤ c) {g : MG} (h : EI c g) : EI c (pWhole g) := by
  have h1 := EI.nots hc 20 g h
  unfold pWhole pWhole2
  generalize pNots 20 g = g1 at *
  by_cases c1 : 0 < g1 33 0 ∧ g1 32 (g1 33 0 - 1) ≠ 40
  · rw [pIf_t c1]; exact h1.pop c1.1 hc (by decide) (h1.1.1 _ _)
  · rw [pIf_f c1]; exact h1
theorem pNots_ne {k : Nat} (h : k ≠ 28 ∧ k ≠ 29 ∧ k ≠ 33) : ∀ (j : Nat) (g : MG), pNots j g k = g k := by
  intro j
  induction j with
  | zero => intro g; rfl
  | succ j ih =>
    intro g
    unfold pNots
    by_cases c1 : 0 < g 33 0 ∧ g 32 (g 33 0 - 1) = 33
    · rw [pIf_t c1, ih, pE_ne ⟨h.1, h.2.1⟩, gup_ne h.2.2]
    · rw [pIf_f c1]
theorem pWh_ne {k : Nat} (h : k ≠ 28 ∧ k ≠ 29 ∧ k ≠ 33) {g : MG} : pWhole g k = g k := by
  unfold pWhole pWhole2
  rw [← pNots_ne h 20 g]
  generalize pNots 20 g = g1 at *
  by_cases c1 : 0 < g1 33 0 ∧ g1 32 (g1 33 0 - 1) ≠ 40
  · rw [pIf_t c1, pE_ne ⟨h.1, h.2.1⟩, gup_ne h.2.2]
  · rw [pIf_f c1]
end M5
