/-! THE REFERENCE'S METHODS, part 8: expressions, whole -/
section M8
variable {E : Ev} {am : Nat} {B : Nat → Nat} {h0 h : AH} {g : MG} {Q : Value → AH → Prop} {X : Nat → AH → Prop}
theorem c_expr103 (hB : MB am B) {v : Option Value} (hI : EI 1 g) (hf : g 20 0 = -9) (Kt : pBt g → V E mX7_readsExpression 7 0 27 [some (.ref am), some (vI 1)] [] (mkM am B h0 (pNext (pWaits g (g 19 0)))) Q X) (Kf : ¬ pBt g → Q .null (mkM am B h0 (pEnd g))) : V E mX7_readsExpression 7 0 103 [some (.ref am), v] [] (mkM am B h0 g) Q X := by
  have hI' := hI
  obtain ⟨⟨hr_g, p2, p3, p4, p5, p6⟩, h2, h3, h4, h5, h6, h7, h8⟩ := hI
  by_cases c : pBt g
  · have hs := hI'.sign (hr_g _ _)
    have hs2 := hs.1.2.1
    refine V_aload_n dX7_readsExpression_103 rfl ?_
    refine VM_c0 (M' := mX7_isBetween) okX7_isBetween rfl dX7_readsExpression_104 q2844 rfl rfl (Nat.le_of_ble_eq_true rfl) (d' := 2) (b1 := 0) (by decide) (by decide) (c_X7_isBetween hB hr_g (fun _ => ?_) (fun c9 => absurd c c9))
    refine V_istore_n dX7_readsExpression_107 (by decide) ?_
    refine V_aload_n dX7_readsExpression_108 rfl ?_
    refine VM_getiE 20 (g 20 0) dX7_readsExpression_109 q2626 (by decide) rfl rfl ?_
    refine V_bipush dX7_readsExpression_112 (by decide) ?_
    refine V_icmp_ne 27 dX7_readsExpression_114 (by decide) (by first | omega | exact hr_g _ _ | decide) (by first | omega | exact hr_g _ _ | decide) (fun c_114 => by exfalso; omega) (fun c_114 => ?_)
    refine V_iload_n dX7_readsExpression_117 rfl ?_
    refine V_if_eq 27 dX7_readsExpression_118 (by decide) (by first | omega | exact hr_g _ _ | decide) (fun c_118 => absurd c_118 (by decide)) (fun c_118 => ?_)
    refine V_aload_n dX7_readsExpression_121 rfl ?_
    refine V_aload_n dX7_readsExpression_122 rfl ?_
    refine VM_getiE 19 (g 19 0) dX7_readsExpression_123 q2625 (by decide) rfl rfl ?_
    refine VM_v1 (M' := mX7_waitsFor) okX7_waitsFor rfl dX7_readsExpression_126 q2832 rfl rfl (Nat.le_of_ble_eq_true rfl) (d' := 1) (b1 := 0) (by decide) (by decide) (c_X7_waitsFor hB hr_g (by first | omega | exact hr_g _ _ | decide) (by first | omega | (simp [gup, aup]; omega)) ?_)
    refine V_aload_n dX7_readsExpression_129 rfl ?_
    refine VM_v0 (M' := mX7_next) okX7_next rfl dX7_readsExpression_130 q2773 rfl rfl (Nat.le_of_ble_eq_true rfl) (d' := 3) (b1 := 0) (by decide) (by decide) (c_X7_next hB hs.1.1 hs2 ?_)
    refine V_goto 27 dX7_readsExpression_133 (by decide) ?_
    exact Kt c
  · have hc0 := c
    refine V_aload_n dX7_readsExpression_103 rfl ?_
    refine VM_c0 (M' := mX7_isBetween) okX7_isBetween rfl dX7_readsExpression_104 q2844 rfl rfl (Nat.le_of_ble_eq_true rfl) (d' := 2) (b1 := 0) (by decide) (by decide) (c_X7_isBetween hB hr_g (fun c9 => absurd c9 c) (fun _ => ?_))
    refine V_istore_n dX7_readsExpression_107 (by decide) ?_
    refine V_aload_n dX7_readsExpression_108 rfl ?_
    refine VM_getiE 20 (g 20 0) dX7_readsExpression_109 q2626 (by decide) rfl rfl ?_
    refine V_bipush dX7_readsExpression_112 (by decide) ?_
    refine V_icmp_ne 27 dX7_readsExpression_114 (by decide) (by first | omega | exact hr_g _ _ | decide) (by first | omega | exact hr_g _ _ | decide) (fun c_114 => by exfalso; omega) (fun c_114 => ?_)
    refine V_iload_n dX7_readsExpression_117 rfl ?_
    refine V_if_eq 27 dX7_readsExpression_118 (by decide) (by first | omega | exact hr_g _ _ | decide) (fun c_118 => ?_) (fun c_118 => absurd c_118 (by decide))
    refine V_aload_n dX7_readsExpression_27 rfl ?_
    refine VM_getiE 20 (g 20 0) dX7_readsExpression_28 q2626 (by decide) rfl rfl ?_; refine V_bipush dX7_readsExpression_31 (by decide) ?_; refine V_icmp_ne 136 dX7_readsExpression_33 (by decide) (hr_g _ _) (by decide) (fun c9 => absurd hf c9) (fun _ => ?_); refine V_iload_n dX7_readsExpression_36 rfl ?_; refine V_if_eq 136 dX7_readsExpression_37 (by decide) (by decide) (fun _ => ?_) (fun c9 => absurd rfl c9); exact c_expr136 hB hr_g hf (Kf c)
theorem c_expr27 (hB : MB am B) : ∀ (k : Nat) (g : MG), EI 0 g → g 20 0 = -9 → 6 - g 34 0 < k → Q .null (mkM am B h0 (pExprN k g)) → V E mX7_readsExpression 7 0 27 [some (.ref am), some (vI 1)] [] (mkM am B h0 g) Q X := by
  intro k
  induction k with
  | zero =>
    intro g hI hf hk
    have := hI.2.2.2.2.1
    omega
  | succ k ih =>
    intro g hI hf hk K
    have hI' := hI
    obtain ⟨⟨hr_g, p2, p3, p4, p5, p6⟩, h2, h3, h4, h5, h6, h7, h8⟩ := hI
    unfold pExprN at K
    have hb := hI'.begin
    have hrb := hb.1.1
    by_cases c : pBegin g 20 0 = -9
    · rw [pIf_t c] at K
      have hE := (hb.2 c).1
      have ht := (hb.2 c).2
      have hw := hE.whole (by omega)
      have hw5 := hw.2.2.2.1
      have hwx := hw.2.2.2.2
      have fw : pWhole (pBegin g) 20 0 = -9 := by rw [pWh_ne (by omega)]; exact c
      have hc := EI.cls 20 _ hw
      have fc : pCls 20 (pWhole (pBegin g)) 20 0 = -9 := by rw [pCls_ne (by omega)]; exact fw
      have tc : pCls 20 (pWhole (pBegin g)) 34 0 = g 34 0 + 1 := by rw [pCls_ne (by omega), pWh_ne (by omega)]; exact ht
      have hend : V E mX7_readsExpression 7 0 103 [some (.ref am), some (vI 1)] [] (mkM am B h0 (pCls 20 (pWhole (pBegin g)))) Q X := by
        refine c_expr103 hB hc fc (fun cb => ?_) (fun cb => ?_)
        · rw [pIf_t cb] at K
          exact ih _ (hc.sign (hc.1.1 _ _)).next (by rw [pN_ne (by omega), pW_ne (by omega)]; exact fc) (by rw [pN_ne (by omega), pW_ne (by omega), tc]; omega) K
        · rw [pIf_f cb] at K
          exact K
      refine V_aload_n dX7_readsExpression_27 rfl ?_
      refine VM_getiE 20 (g 20 0) dX7_readsExpression_28 q2626 (by decide) rfl rfl ?_
      refine V_bipush dX7_readsExpression_31 (by decide) ?_
      refine V_icmp_ne 136 dX7_readsExpression_33 (by decide) (by first | omega | exact hr_g _ _ | exact hrb _ _ | decide) (by first | omega | exact hr_g _ _ | exact hrb _ _ | decide) (fun c_33 => by exfalso; omega) (fun c_33 => ?_)
      refine V_iload_n dX7_readsExpression_36 rfl ?_
      refine V_if_eq 136 dX7_readsExpression_37 (by decide) (by first | omega | exact hr_g _ _ | exact hrb _ _ | decide) (fun c_37 => absurd c_37 (by decide)) (fun c_37 => ?_)
      refine V_aload_n dX7_readsExpression_40 rfl ?_
      refine VM_v0 (M' := mX7_beginsTerm) okX7_beginsTerm rfl dX7_readsExpression_41 q2828 rfl rfl (Nat.le_of_ble_eq_true rfl) (d' := 6) (b1 := 0) (by decide) (by decide) (c_X7_beginsTerm hB hI' hf ?_)
      refine V_aload_n dX7_readsExpression_44 rfl ?_
      refine VM_getiE 20 (((pBegin g)) 20 0) dX7_readsExpression_45 q2626 (by decide) rfl rfl ?_
      refine V_bipush dX7_readsExpression_48 (by decide) ?_
      refine V_icmp_ne 57 dX7_readsExpression_50 (by decide) (by first | omega | exact hr_g _ _ | exact hrb _ _ | decide) (by first | omega | exact hr_g _ _ | exact hrb _ _ | decide) (fun c_50 => by exfalso; omega) (fun c_50 => ?_)
      refine V_aload_n dX7_readsExpression_53 rfl ?_
      refine VM_v0 (M' := mX7_wholeTerm) okX7_wholeTerm rfl dX7_readsExpression_54 q2840 rfl rfl (Nat.le_of_ble_eq_true rfl) (d' := 2) (b1 := 0) (by decide) (by decide) (c_X7_wholeTerm hB hE (by omega) ?_)
      exact c_expr57 hB 20 _ hw fw (by omega) hend
    · rw [pIf_f c] at K
      refine V_aload_n dX7_readsExpression_27 rfl ?_
      refine VM_getiE 20 (g 20 0) dX7_readsExpression_28 q2626 (by decide) rfl rfl ?_
      refine V_bipush dX7_readsExpression_31 (by decide) ?_
      refine V_icmp_ne 136 dX7_readsExpression_33 (by decide) (by first | omega | exact hr_g _ _ | exact hrb _ _ | decide) (by first | omega | exact hr_g _ _ | exact hrb _ _ | decide) (fun c_33 => by exfalso; omega) (fun c_33 => ?_)
      refine V_iload_n dX7_readsExpression_36 rfl ?_
      refine V_if_eq 136 dX7_readsExpression_37 (by decide) (by first | omega | exact hr_g _ _ | exact hrb _ _ | decide) (fun c_37 => absurd c_37 (by decide)) (fun c_37 => ?_)
      refine V_aload_n dX7_readsExpression_40 rfl ?_
      refine VM_v0 (M' := mX7_beginsTerm) okX7_beginsTerm rfl dX7_readsExpression_41 q2828 rfl rfl (Nat.le_of_ble_eq_true rfl) (d' := 6) (b1 := 0) (by decide) (by decide) (c_X7_beginsTerm hB hI' hf ?_)
      refine V_aload_n dX7_readsExpression_44 rfl ?_
      refine VM_getiE 20 (((pBegin g)) 20 0) dX7_readsExpression_45 q2626 (by decide) rfl rfl ?_
      refine V_bipush dX7_readsExpression_48 (by decide) ?_
      refine V_icmp_ne 57 dX7_readsExpression_50 (by decide) (by first | omega | exact hr_g _ _ | exact hrb _ _ | decide) (by first | omega | exact hr_g _ _ | exact hrb _ _ | decide) (fun c_50 => ?_) (fun c_50 => by exfalso; omega)
      exact c_expr57B hB hrb c K
theorem c_X7_readsExpression (hB : MB am B) (hI : PI g) (hd : 0 ≤ g 24 0 ∧ g 24 0 ≤ 3) (hf : g 20 0 = -9) (K : Q .null (mkM am B h0 (pExpr g))) : V E mX7_readsExpression 7 0 0 [some (.ref am), none] [] (mkM am B h0 g) Q X := by
  have hI' := hI
  obtain ⟨hr_g, p2, p3, p4, p5, p6⟩ := hI
  have hE : EI 0 (gup (gup (gup (gup g 33 0 0) 34 0 0) 35 0 0) 29 (g 24 0) 0) := by
    refine ⟨(((hI'.up (by omega) (by decide)).up (by omega) (by decide)).up (by omega) (by decide)).up (by omega) (by decide), ?_⟩
    simp [gup_rd]
    omega
  refine V_aload_n dX7_readsExpression_0 rfl ?_
  refine V_iconst dX7_readsExpression_1 ?_
  refine VM_puti 33 dX7_readsExpression_2 q2639 (by decide) rfl rfl mfs33 mna33 ?_
  refine V_aload_n dX7_readsExpression_5 rfl ?_
  refine V_iconst dX7_readsExpression_6 ?_
  refine VM_puti 34 dX7_readsExpression_7 q2640 (by decide) rfl rfl mfs34 mna34 ?_
  refine V_aload_n dX7_readsExpression_10 rfl ?_
  refine V_iconst dX7_readsExpression_11 ?_
  refine VM_puti 35 dX7_readsExpression_12 q2641 (by decide) rfl rfl mfs35 mna35 ?_
  refine V_aload_n dX7_readsExpression_15 rfl ?_
  refine VM_geta 29 dX7_readsExpression_16 q2635 (by decide) rfl ?_
  refine V_aload_n dX7_readsExpression_19 rfl ?_
  refine VM_getiE 24 (g 24 0) dX7_readsExpression_20 q2630 (by decide) rfl rfl ?_
  refine V_iconst dX7_readsExpression_23 ?_
  refine VM_iast 29 hB dX7_readsExpression_24 mar29 rfl mfa29 (by first | omega | (simp [gup, aup]; omega)) (by show _ < (4 : Int); first | omega | (simp [gup, aup]; omega)) (by decide) ?_
  refine V_iconst dX7_readsExpression_25 ?_
  refine V_istore_n dX7_readsExpression_26 (by decide) ?_
  exact c_expr27 hB 8 _ hE (by simp [gup_rd]; exact hf) (by simp [gup_rd]) K
end M8
