/-! THE REFERENCE'S METHODS, part 1: numbers, the text, tokens -/
section M1
variable {E : Ev} {am : Nat} {B : Nat → Nat} {h0 h : AH} {g : MG} {Q : Value → AH → Prop} {X : Nat → AH → Prop}
theorem c_X7_of (hB : MB am B) {n w : Int} (h1 : 0 ≤ 6 * n + w) (h2 : 6 * n + w < 72) (K : Q (vI (g 0 (6 * n + w))) (mkM am B h0 g)) : V E mX7_of 1 0 0 [some (.ref am), some (vI n), some (vI w)] [] (mkM am B h0 g) Q X := by
  refine V_aload_n dX7_of_0 rfl ?_
  refine VM_geta 0 dX7_of_1 q2606 (by decide) rfl ?_
  refine V_bipush dX7_of_4 (by decide) ?_
  refine V_iload_n dX7_of_6 rfl ?_
  refine V_imul dX7_of_7 ?_
  refine V_iload_n dX7_of_8 rfl ?_
  refine V_iadd dX7_of_9 ?_
  refine VM_ialdE 0 (g 0 ((6 * n) + w)) hB dX7_of_10 mar0 rfl (by omega) (by show _ < (72 : Int); omega) (by decide) rfl ?_
  exact V_iret dX7_of_11 rfl (by exact K)
theorem c_X7_in {v l u : Int} (hv : inr v) (hl : inr l) (hu : inr u) (Kt : l ≤ v ∧ v ≤ u → Q (vI 1) h) (Kf : ¬ (l ≤ v ∧ v ≤ u) → Q (vI 0) h) : V E mX7_in 1 0 0 [some (vI v), some (vI l), some (vI u)] [] h Q X := by
  refine V_iload_n dX7_in_0 rfl ?_
  refine V_iload_n dX7_in_1 rfl ?_
  refine V_icmp_lt 14 dX7_in_2 (by decide) (by first | omega | exact hr_g _ _ | decide) (by first | omega | exact hr_g _ _ | decide) (fun c_2 => ?_) (fun c_2 => ?_)
  · refine V_iconst dX7_in_14 ?_
    exact V_zret dX7_in_15 rfl (by first | decide | omega) (by first | exact Kt (by omega) | exact Kf (by omega))
  · refine V_iload_n dX7_in_5 rfl ?_
    refine V_iload_n dX7_in_6 rfl ?_
    refine V_icmp_gt 14 dX7_in_7 (by decide) (by first | omega | exact hr_g _ _ | decide) (by first | omega | exact hr_g _ _ | decide) (fun c_7 => ?_) (fun c_7 => ?_)
    · refine V_iconst dX7_in_14 ?_
      exact V_zret dX7_in_15 rfl (by first | decide | omega) (by first | exact Kt (by omega) | exact Kf (by omega))
    · refine V_iconst dX7_in_10 ?_
      refine V_goto 15 dX7_in_11 (by decide) ?_
      exact V_zret dX7_in_15 rfl (by first | decide | omega) (by first | exact Kt (by omega) | exact Kf (by omega))
theorem c_X7_isKind {v : Int} (hv : inr v) (Kt : 0 ≤ v ∧ v ≤ 2 → Q (vI 1) h) (Kf : ¬ (0 ≤ v ∧ v ≤ 2) → Q (vI 0) h) : V E mX7_isKind 2 0 0 [some (vI v)] [] h Q X := by
  refine V_iload_n dX7_isKind_0 rfl ?_
  refine V_iconst dX7_isKind_1 ?_
  refine V_iconst dX7_isKind_2 ?_
  refine VS_c3 (M' := mX7_in) okX7_in dX7_isKind_3 q2762 rfl rfl (Nat.le_of_ble_eq_true rfl) (d' := 1) (b1 := 0) (by decide) (by decide) (c_X7_in (by first | omega | exact hr_g _ _ | decide) (by first | omega | exact hr_g _ _ | decide) (by first | omega | exact hr_g _ _ | decide) (fun c_3 => ?_) (fun c_3 => ?_))
  · exact V_zret dX7_isKind_6 rfl (by first | decide | omega) (by first | exact Kt (by omega) | exact Kf (by omega))
  · exact V_zret dX7_isKind_6 rfl (by first | decide | omega) (by first | exact Kt (by omega) | exact Kf (by omega))
theorem c_X7_block0 {b : Int} (K : Q (vI (11 + 33 * b)) h) : V E mX7_block0 1 0 0 [some (vI b)] [] h Q X := by
  refine V_bipush dX7_block0_0 (by decide) ?_
  refine V_bipush dX7_block0_2 (by decide) ?_
  refine V_iload_n dX7_block0_4 rfl ?_
  refine V_imul dX7_block0_5 ?_
  refine V_iadd dX7_block0_6 ?_
  exact V_iret dX7_block0_7 rfl (by exact K)
theorem c_X7_isSign {c : Int} (hc : inr c) (Kt : pSg c → Q (vI 1) h) (Kf : ¬ pSg c → Q (vI 0) h) : V E mX7_isSign 1 0 0 [some (vI c)] [] h Q X := by
  refine V_iload_n dX7_isSign_0 rfl ?_
  refine V_bipush dX7_isSign_1 (by decide) ?_
  refine V_icmp_eq 90 dX7_isSign_3 (by decide) (by first | omega | exact hr_g _ _ | decide) (by first | omega | exact hr_g _ _ | decide) (fun c_3 => ?_) (fun c_3 => ?_)
  · refine V_iconst dX7_isSign_90 ?_
    refine V_goto 95 dX7_isSign_91 (by decide) ?_
    exact V_zret dX7_isSign_95 rfl (by first | decide | omega) (by first | exact Kt (by unfold pSg; omega) | exact Kf (by unfold pSg; omega))
  · refine V_iload_n dX7_isSign_6 rfl ?_
    refine V_bipush dX7_isSign_7 (by decide) ?_
    refine V_icmp_eq 90 dX7_isSign_9 (by decide) (by first | omega | exact hr_g _ _ | decide) (by first | omega | exact hr_g _ _ | decide) (fun c_9 => ?_) (fun c_9 => ?_)
    · refine V_iconst dX7_isSign_90 ?_
      refine V_goto 95 dX7_isSign_91 (by decide) ?_
      exact V_zret dX7_isSign_95 rfl (by first | decide | omega) (by first | exact Kt (by unfold pSg; omega) | exact Kf (by unfold pSg; omega))
    · refine V_iload_n dX7_isSign_12 rfl ?_
      refine V_bipush dX7_isSign_13 (by decide) ?_
      refine V_icmp_eq 90 dX7_isSign_15 (by decide) (by first | omega | exact hr_g _ _ | decide) (by first | omega | exact hr_g _ _ | decide) (fun c_15 => ?_) (fun c_15 => ?_)
      · refine V_iconst dX7_isSign_90 ?_
        refine V_goto 95 dX7_isSign_91 (by decide) ?_
        exact V_zret dX7_isSign_95 rfl (by first | decide | omega) (by first | exact Kt (by unfold pSg; omega) | exact Kf (by unfold pSg; omega))
      · refine V_iload_n dX7_isSign_18 rfl ?_
        refine V_bipush dX7_isSign_19 (by decide) ?_
        refine V_icmp_eq 90 dX7_isSign_21 (by decide) (by first | omega | exact hr_g _ _ | decide) (by first | omega | exact hr_g _ _ | decide) (fun c_21 => ?_) (fun c_21 => ?_)
        · refine V_iconst dX7_isSign_90 ?_
          refine V_goto 95 dX7_isSign_91 (by decide) ?_
          exact V_zret dX7_isSign_95 rfl (by first | decide | omega) (by first | exact Kt (by unfold pSg; omega) | exact Kf (by unfold pSg; omega))
        · refine V_iload_n dX7_isSign_24 rfl ?_
          refine V_bipush dX7_isSign_25 (by decide) ?_
          refine V_icmp_eq 90 dX7_isSign_27 (by decide) (by first | omega | exact hr_g _ _ | decide) (by first | omega | exact hr_g _ _ | decide) (fun c_27 => ?_) (fun c_27 => ?_)
          · refine V_iconst dX7_isSign_90 ?_
            refine V_goto 95 dX7_isSign_91 (by decide) ?_
            exact V_zret dX7_isSign_95 rfl (by first | decide | omega) (by first | exact Kt (by unfold pSg; omega) | exact Kf (by unfold pSg; omega))
          · refine V_iload_n dX7_isSign_30 rfl ?_
            refine V_bipush dX7_isSign_31 (by decide) ?_
            refine V_icmp_eq 90 dX7_isSign_33 (by decide) (by first | omega | exact hr_g _ _ | decide) (by first | omega | exact hr_g _ _ | decide) (fun c_33 => ?_) (fun c_33 => ?_)
            · refine V_iconst dX7_isSign_90 ?_
              refine V_goto 95 dX7_isSign_91 (by decide) ?_
              exact V_zret dX7_isSign_95 rfl (by first | decide | omega) (by first | exact Kt (by unfold pSg; omega) | exact Kf (by unfold pSg; omega))
            · refine V_iload_n dX7_isSign_36 rfl ?_
              refine V_bipush dX7_isSign_37 (by decide) ?_
              refine V_icmp_eq 90 dX7_isSign_39 (by decide) (by first | omega | exact hr_g _ _ | decide) (by first | omega | exact hr_g _ _ | decide) (fun c_39 => ?_) (fun c_39 => ?_)
              · refine V_iconst dX7_isSign_90 ?_
                refine V_goto 95 dX7_isSign_91 (by decide) ?_
                exact V_zret dX7_isSign_95 rfl (by first | decide | omega) (by first | exact Kt (by unfold pSg; omega) | exact Kf (by unfold pSg; omega))
              · refine V_iload_n dX7_isSign_42 rfl ?_
                refine V_bipush dX7_isSign_43 (by decide) ?_
                refine V_icmp_eq 90 dX7_isSign_45 (by decide) (by first | omega | exact hr_g _ _ | decide) (by first | omega | exact hr_g _ _ | decide) (fun c_45 => ?_) (fun c_45 => ?_)
                · refine V_iconst dX7_isSign_90 ?_
                  refine V_goto 95 dX7_isSign_91 (by decide) ?_
                  exact V_zret dX7_isSign_95 rfl (by first | decide | omega) (by first | exact Kt (by unfold pSg; omega) | exact Kf (by unfold pSg; omega))
                · refine V_iload_n dX7_isSign_48 rfl ?_
                  refine V_bipush dX7_isSign_49 (by decide) ?_
                  refine V_icmp_eq 90 dX7_isSign_51 (by decide) (by first | omega | exact hr_g _ _ | decide) (by first | omega | exact hr_g _ _ | decide) (fun c_51 => ?_) (fun c_51 => ?_)
                  · refine V_iconst dX7_isSign_90 ?_
                    refine V_goto 95 dX7_isSign_91 (by decide) ?_
                    exact V_zret dX7_isSign_95 rfl (by first | decide | omega) (by first | exact Kt (by unfold pSg; omega) | exact Kf (by unfold pSg; omega))
                  · refine V_iload_n dX7_isSign_54 rfl ?_
                    refine V_bipush dX7_isSign_55 (by decide) ?_
                    refine V_icmp_eq 90 dX7_isSign_57 (by decide) (by first | omega | exact hr_g _ _ | decide) (by first | omega | exact hr_g _ _ | decide) (fun c_57 => ?_) (fun c_57 => ?_)
                    · refine V_iconst dX7_isSign_90 ?_
                      refine V_goto 95 dX7_isSign_91 (by decide) ?_
                      exact V_zret dX7_isSign_95 rfl (by first | decide | omega) (by first | exact Kt (by unfold pSg; omega) | exact Kf (by unfold pSg; omega))
                    · refine V_iload_n dX7_isSign_60 rfl ?_
                      refine V_bipush dX7_isSign_61 (by decide) ?_
                      refine V_icmp_eq 90 dX7_isSign_63 (by decide) (by first | omega | exact hr_g _ _ | decide) (by first | omega | exact hr_g _ _ | decide) (fun c_63 => ?_) (fun c_63 => ?_)
                      · refine V_iconst dX7_isSign_90 ?_
                        refine V_goto 95 dX7_isSign_91 (by decide) ?_
                        exact V_zret dX7_isSign_95 rfl (by first | decide | omega) (by first | exact Kt (by unfold pSg; omega) | exact Kf (by unfold pSg; omega))
                      · refine V_iload_n dX7_isSign_66 rfl ?_
                        refine V_bipush dX7_isSign_67 (by decide) ?_
                        refine V_icmp_eq 90 dX7_isSign_69 (by decide) (by first | omega | exact hr_g _ _ | decide) (by first | omega | exact hr_g _ _ | decide) (fun c_69 => ?_) (fun c_69 => ?_)
                        · refine V_iconst dX7_isSign_90 ?_
                          refine V_goto 95 dX7_isSign_91 (by decide) ?_
                          exact V_zret dX7_isSign_95 rfl (by first | decide | omega) (by first | exact Kt (by unfold pSg; omega) | exact Kf (by unfold pSg; omega))
                        · refine V_iload_n dX7_isSign_72 rfl ?_
                          refine V_bipush dX7_isSign_73 (by decide) ?_
                          refine V_icmp_eq 90 dX7_isSign_75 (by decide) (by first | omega | exact hr_g _ _ | decide) (by first | omega | exact hr_g _ _ | decide) (fun c_75 => ?_) (fun c_75 => ?_)
                          · refine V_iconst dX7_isSign_90 ?_
                            refine V_goto 95 dX7_isSign_91 (by decide) ?_
                            exact V_zret dX7_isSign_95 rfl (by first | decide | omega) (by first | exact Kt (by unfold pSg; omega) | exact Kf (by unfold pSg; omega))
                          · refine V_iload_n dX7_isSign_78 rfl ?_
                            refine V_bipush dX7_isSign_79 (by decide) ?_
                            refine V_icmp_eq 90 dX7_isSign_81 (by decide) (by first | omega | exact hr_g _ _ | decide) (by first | omega | exact hr_g _ _ | decide) (fun c_81 => ?_) (fun c_81 => ?_)
                            · refine V_iconst dX7_isSign_90 ?_
                              refine V_goto 95 dX7_isSign_91 (by decide) ?_
                              exact V_zret dX7_isSign_95 rfl (by first | decide | omega) (by first | exact Kt (by unfold pSg; omega) | exact Kf (by unfold pSg; omega))
                            · refine V_iload_n dX7_isSign_84 rfl ?_
                              refine V_bipush dX7_isSign_85 (by decide) ?_
                              refine V_icmp_ne 94 dX7_isSign_87 (by decide) (by first | omega | exact hr_g _ _ | decide) (by first | omega | exact hr_g _ _ | decide) (fun c_87 => ?_) (fun c_87 => ?_)
                              · refine V_iconst dX7_isSign_94 ?_
                                exact V_zret dX7_isSign_95 rfl (by first | decide | omega) (by first | exact Kt (by unfold pSg; omega) | exact Kf (by unfold pSg; omega))
                              · refine V_iconst dX7_isSign_90 ?_
                                refine V_goto 95 dX7_isSign_91 (by decide) ?_
                                exact V_zret dX7_isSign_95 rfl (by first | decide | omega) (by first | exact Kt (by unfold pSg; omega) | exact Kf (by unfold pSg; omega))
theorem c_X7_isFigure (hB : MB am B) {k : Int} (h0k : 0 ≤ k) (hty : g 15 0 ≤ 160) (hr_g : Rng g) (hk : inr k) (Kt : isFg (g 14) (g 15 0) k → Q (vI 1) (mkM am B h0 g)) (Kf : ¬ isFg (g 14) (g 15 0) k → Q (vI 0) (mkM am B h0 g)) : V E mX7_isFigure 2 0 0 [some (.ref am), some (vI k)] [] (mkM am B h0 g) Q X := by
  refine V_iload_n dX7_isFigure_0 rfl ?_
  refine V_aload_n dX7_isFigure_1 rfl ?_
  refine VM_getiE 15 (g 15 0) dX7_isFigure_2 q2621 (by decide) rfl rfl ?_
  refine V_icmp_ge 28 dX7_isFigure_5 (by decide) (by first | omega | exact hr_g _ _ | decide) (by first | omega | exact hr_g _ _ | decide) (fun c_5 => ?_) (fun c_5 => ?_)
  · refine V_iconst dX7_isFigure_28 ?_
    exact V_zret dX7_isFigure_29 rfl (by first | decide | omega) (by first | exact Kt ⟨by omega, by omega, by omega⟩ | exact Kf (fun h9 => by obtain ⟨h91, h92, h93⟩ := h9; omega))
  · refine V_aload_n dX7_isFigure_8 rfl ?_
    refine VM_geta 14 dX7_isFigure_9 q2620 (by decide) rfl ?_
    refine V_iload_n dX7_isFigure_12 rfl ?_
    refine VM_ialdE 14 (g 14 k) hB dX7_isFigure_13 mar14 rfl (by omega) (by show _ < (160 : Int); omega) (by decide) rfl ?_
    refine V_bipush dX7_isFigure_14 (by decide) ?_
    refine V_bipush dX7_isFigure_16 (by decide) ?_
    refine VS_c3 (M' := mX7_in) okX7_in dX7_isFigure_18 q2762 rfl rfl (Nat.le_of_ble_eq_true rfl) (d' := 1) (b1 := 0) (by decide) (by decide) (c_X7_in (by first | omega | exact hr_g _ _ | decide) (by first | omega | exact hr_g _ _ | decide) (by first | omega | exact hr_g _ _ | decide) (fun c_18 => ?_) (fun c_18 => ?_))
    · refine V_if_eq 28 dX7_isFigure_21 (by decide) (by first | omega | exact hr_g _ _ | decide) (fun c_21 => absurd c_21 (by decide)) (fun c_21 => ?_)
      refine V_iconst dX7_isFigure_24 ?_
      refine V_goto 29 dX7_isFigure_25 (by decide) ?_
      exact V_zret dX7_isFigure_29 rfl (by first | decide | omega) (by first | exact Kt ⟨by omega, by omega, by omega⟩ | exact Kf (fun h9 => by obtain ⟨h91, h92, h93⟩ := h9; omega))
    · refine V_if_eq 28 dX7_isFigure_21 (by decide) (by first | omega | exact hr_g _ _ | decide) (fun c_21 => ?_) (fun c_21 => absurd c_21 (by decide))
      refine V_iconst dX7_isFigure_28 ?_
      exact V_zret dX7_isFigure_29 rfl (by first | decide | omega) (by first | exact Kt ⟨by omega, by omega, by omega⟩ | exact Kf (fun h9 => by obtain ⟨h91, h92, h93⟩ := h9; omega))
theorem c_X7_is (hB : MB am B) {s : Int} (hr_g : Rng g) (hs : inr s) (Kt : g 18 0 = 3 ∧ g 19 0 = s → Q (vI 1) (mkM am B h0 g)) (Kf : ¬ (g 18 0 = 3 ∧ g 19 0 = s) → Q (vI 0) (mkM am B h0 g)) : V E mX7_is 1 0 0 [some (.ref am), some (vI s)] [] (mkM am B h0 g) Q X := by
  refine V_aload_n dX7_is_0 rfl ?_
  refine VM_getiE 18 (g 18 0) dX7_is_1 q2624 (by decide) rfl rfl ?_
  refine V_iconst dX7_is_4 ?_
  refine V_icmp_ne 20 dX7_is_5 (by decide) (by first | omega | exact hr_g _ _ | decide) (by first | omega | exact hr_g _ _ | decide) (fun c_5 => ?_) (fun c_5 => ?_)
  · refine V_iconst dX7_is_20 ?_
    exact V_zret dX7_is_21 rfl (by first | decide | omega) (by first | exact Kt ⟨by omega, by omega⟩ | exact Kf (by omega))
  · refine V_aload_n dX7_is_8 rfl ?_
    refine VM_getiE 19 (g 19 0) dX7_is_9 q2625 (by decide) rfl rfl ?_
    refine V_iload_n dX7_is_12 rfl ?_
    refine V_icmp_ne 20 dX7_is_13 (by decide) (by first | omega | exact hr_g _ _ | decide) (by first | omega | exact hr_g _ _ | decide) (fun c_13 => ?_) (fun c_13 => ?_)
    · refine V_iconst dX7_is_20 ?_
      exact V_zret dX7_is_21 rfl (by first | decide | omega) (by first | exact Kt ⟨by omega, by omega⟩ | exact Kf (by omega))
    · refine V_iconst dX7_is_16 ?_
      refine V_goto 21 dX7_is_17 (by decide) ?_
      exact V_zret dX7_is_21 rfl (by first | decide | omega) (by first | exact Kt ⟨by omega, by omega⟩ | exact Kf (by omega))
theorem tkS_in {tx : Int → Int} {n a : Int} (h : a ≤ n) : a ≤ tkS tx n a ∧ tkS tx n a ≤ n := by
  have := loop_upI (P := fun i => i ≤ tkS tx n i ∧ tkS tx n i ≤ n) a n (fun i h1 h2 ih => by
    by_cases hc : i < n ∧ tx i = 32
    · rw [tkS_s hc.1 hc.2]
      have := ih hc.1
      omega
    · rw [tkS_e hc]; omega) h
  exact this
theorem fgE_in {tx : Int → Int} {n a : Int} (h : a ≤ n) : a ≤ fgE tx n a ∧ fgE tx n a ≤ n := by
  have := loop_upI (P := fun i => i ≤ fgE tx n i ∧ fgE tx n i ≤ n) a n (fun i h1 h2 ih => by
    by_cases hc : isFg tx n i
    · rw [fgE_s hc]
      have := ih hc.1
      omega
    · rw [fgE_e hc]; omega) h
  exact this
theorem fgV_in {tx : Int → Int} {n a : Int} (h : a ≤ n) : ∀ v, 0 ≤ v ∧ v ≤ 2559 → 0 ≤ fgV tx n a v ∧ fgV tx n a v ≤ 2559 := by
  have := loop_upI (P := fun i => ∀ v, 0 ≤ v ∧ v ≤ 2559 → 0 ≤ fgV tx n i v ∧ fgV tx n i v ≤ 2559) a n (fun i h1 h2 ih => by
    intro v hv
    by_cases hc : isFg tx n i
    · rw [fgV_s hc]
      refine ih hc.1 _ ?_
      obtain ⟨_, h4, h5⟩ := hc
      split <;> omega
    · rw [fgV_e hc]; exact hv) h
  exact this
set_option maxHeartbeats 1000000 in
theorem c_X7_next (hB : MB am B) (hr_g : Rng g) (ha : 0 ≤ g 16 0 ∧ g 16 0 ≤ g 15 0 ∧ g 15 0 ≤ 160) (K : Q .null (mkM am B h0 (pNext g))) : V E mX7_next 3 0 0 [some (.ref am), none] [] (mkM am B h0 g) Q X := by
  obtain ⟨ha0, ha1, ha2⟩ := ha
  generalize hA : tkS (g 14) (g 15 0) (g 16 0) = A at *
  have hAin := tkS_in (tx := g 14) ha1
  rw [hA] at hAin
  have hpn : pNext g = pT g (tkEnd (g 14) (g 15 0) A) A (tkSort (g 14) (g 15 0) A) (tkVal (g 14) (g 15 0) A (g 19 0)) := by unfold pNext; rw [hA]
  have E1 : V E mX7_next 3 0 38 [some (.ref am), none] [] (mkM am B h0 (pT g A (g 17 0) (g 18 0) (g 19 0))) Q X := by
    by_cases hend : A = g 15 0
    · have e1 : pNext g = pT g A A 4 (g 19 0) := by
        rw [hpn]; unfold tkEnd tkSort tkVal; rw [pIf_t hend, pIf_t hend, pIf_t hend]
      refine V_aload_n dX7_next_38 rfl ?_
      refine V_aload_n dX7_next_39 rfl ?_
      refine VM_getiE 16 (A) dX7_next_40 q2622 (by decide) rfl rfl ?_
      refine VM_puti 17 dX7_next_43 q2623 (by decide) rfl rfl mfs17 mna17 ?_
      refine V_aload_n dX7_next_46 rfl ?_
      refine VM_getiE 16 (A) dX7_next_47 q2622 (by decide) rfl rfl ?_
      refine V_aload_n dX7_next_50 rfl ?_
      refine VM_getiE 15 (g 15 0) dX7_next_51 q2621 (by decide) rfl rfl ?_
      refine V_icmp_ne 63 dX7_next_54 (by decide) (by first | omega | exact hr_g _ _ | decide) (by first | omega | exact hr_g _ _ | decide) (fun c_54 => by exfalso; omega) (fun c_54 => ?_)
      refine V_aload_n dX7_next_57 rfl ?_
      refine V_iconst dX7_next_58 ?_
      refine VM_puti 18 dX7_next_59 q2624 (by decide) rfl rfl mfs18 mna18 ?_
      exact V_vret dX7_next_62 rfl (by rw [e1] at K; rw [pT_17, pT_18]; exact K)
    · have h38 : 0 ≤ A ∧ A < 160 := by omega
      by_cases hf : 48 ≤ g 14 A ∧ g 14 A ≤ 57
      · have hfg : isFg (g 14) (g 15 0) A := ⟨by omega, hf.1, hf.2⟩
        have e1 : pNext g = pT g (fgE (g 14) (g 15 0) A) A (pIf (255 < fgV (g 14) (g 15 0) A 0 ∨ (g 14 A = 48 ∧ A + 1 < fgE (g 14) (g 15 0) A)) 5 2) (fgV (g 14) (g 15 0) A 0) := by
          rw [hpn]; unfold tkEnd tkSort tkVal; rw [pIf_f hend, pIf_f hend, pIf_f hend, pIf_t hf, pIf_t hf, pIf_t hf]
        have L2 : ∀ v, 0 ≤ v ∧ v ≤ 2559 → fgE (g 14) (g 15 0) A = fgE (g 14) (g 15 0) A → fgV (g 14) (g 15 0) A v = fgV (g 14) (g 15 0) A 0 → V E mX7_next 3 0 89 [some (.ref am), some (vI (g 14 A))] [] (mkM am B h0 (pT g A A (g 18 0) v)) Q X := by
          refine loop_upI (P := fun e => ∀ v, 0 ≤ v ∧ v ≤ 2559 → fgE (g 14) (g 15 0) e = fgE (g 14) (g 15 0) A → fgV (g 14) (g 15 0) e v = fgV (g 14) (g 15 0) A 0 → V E mX7_next 3 0 89 [some (.ref am), some (vI (g 14 A))] [] (mkM am B h0 (pT g e A (g 18 0) v)) Q X) A (g 15 0) (fun e h1 h2 ih => ?_) (by omega)
          intro v hv hE hV
          refine V_aload_n dX7_next_89 rfl ?_
          refine V_aload_n dX7_next_90 rfl ?_
          refine VM_getiE 16 (e) dX7_next_91 q2622 (by decide) rfl rfl ?_
          refine VM_c1 (M' := mX7_isFigure) okX7_isFigure rfl dX7_next_94 q2777 rfl rfl (Nat.le_of_ble_eq_true rfl) (d' := 2) (b1 := 0) (by decide) (by decide) (c_X7_isFigure hB (by show 0 ≤ e; omega) (by show g 15 0 ≤ 160; omega) (Rng.pT (a := e) (s := A) (o := g 18 0) (v := v) hr_g (by first | omega | exact hr_g _ _ | decide) (by first | omega | exact hr_g _ _ | decide) (by first | omega | exact hr_g _ _ | decide) (by first | omega | exact hr_g _ _ | decide)) (by first | omega | exact hr_g _ _ | decide) (fun hfe => ?_) (fun hfe => ?_))
          · refine V_if_eq 153 dX7_next_97 (by decide) (by first | omega | exact hr_g _ _ | decide) (fun c_97 => absurd c_97 (by decide)) (fun c_97 => ?_)
            change isFg (g 14) (g 15 0) e at hfe; have hfe2 := hfe.2
            refine V_aload_n dX7_next_100 rfl ?_
            refine V_aload_n dX7_next_101 rfl ?_
            refine VM_getiE 19 (v) dX7_next_102 q2625 (by decide) rfl rfl ?_
            refine V_sipush dX7_next_105 (by decide) ?_
            refine V_icmp_le 117 dX7_next_108 (by decide) (by first | omega | exact hr_g _ _ | decide) (by first | omega | exact hr_g _ _ | decide) (fun c_108 => ?_) (fun c_108 => ?_)
            · refine V_bipush dX7_next_117 (by decide) ?_
              refine V_aload_n dX7_next_119 rfl ?_
              refine VM_getiE 19 (v) dX7_next_120 q2625 (by decide) rfl rfl ?_
              refine V_imul dX7_next_123 ?_
              refine V_aload_n dX7_next_124 rfl ?_
              refine VM_geta 14 dX7_next_125 q2620 (by decide) rfl ?_
              refine V_aload_n dX7_next_128 rfl ?_
              refine VM_getiE 16 (e) dX7_next_129 q2622 (by decide) rfl rfl ?_
              refine VM_ialdE 14 (g 14 e) hB dX7_next_132 mar14 rfl (by omega) (by show _ < (160 : Int); omega) (by decide) rfl ?_
              refine V_iadd dX7_next_133 ?_
              refine V_bipush dX7_next_134 (by decide) ?_
              refine V_isub dX7_next_136 ?_
              refine VM_puti 19 dX7_next_137 q2625 (by decide) rfl rfl mfs19 mna19 ?_
              refine V_aload_n dX7_next_140 rfl ?_
              refine V_dup dX7_next_141 rfl ?_
              refine VM_getiE 16 (e) dX7_next_142 q2622 (by decide) rfl rfl ?_
              refine V_iconst dX7_next_145 ?_
              refine V_iadd dX7_next_146 ?_
              refine VM_puti 16 dX7_next_147 q2622 (by decide) rfl rfl mfs16 mna16 ?_
              refine V_goto 89 dX7_next_150 (by decide) ?_
              rw [pT_19, pT_16]; refine ih hfe.1 _ (by omega) (by rw [← hE, fgE_s hfe]) (by rw [← hV, fgV_s hfe]; congr 1; first | (rw [if_pos (by omega)]; done) | (rw [if_neg (by omega)]; done))
            · refine V_sipush dX7_next_111 (by decide) ?_
              refine V_goto 137 dX7_next_114 (by decide) ?_
              refine VM_puti 19 dX7_next_137 q2625 (by decide) rfl rfl mfs19 mna19 ?_
              refine V_aload_n dX7_next_140 rfl ?_
              refine V_dup dX7_next_141 rfl ?_
              refine VM_getiE 16 (e) dX7_next_142 q2622 (by decide) rfl rfl ?_
              refine V_iconst dX7_next_145 ?_
              refine V_iadd dX7_next_146 ?_
              refine VM_puti 16 dX7_next_147 q2622 (by decide) rfl rfl mfs16 mna16 ?_
              refine V_goto 89 dX7_next_150 (by decide) ?_
              rw [pT_19, pT_16]; refine ih hfe.1 _ (by omega) (by rw [← hE, fgE_s hfe]) (by rw [← hV, fgV_s hfe]; congr 1; first | (rw [if_pos (by omega)]; done) | (rw [if_neg (by omega)]; done))
          · refine V_if_eq 153 dX7_next_97 (by decide) (by first | omega | exact hr_g _ _ | decide) (fun c_97 => ?_) (fun c_97 => absurd c_97 (by decide))
            change ¬ isFg (g 14) (g 15 0) e at hfe; rw [fgE_e hfe] at hE; rw [fgV_e hfe] at hV; rw [← hE, ← hV] at e1
            refine V_aload_n dX7_next_153 rfl ?_
            refine V_aload_n dX7_next_154 rfl ?_
            refine VM_getiE 19 (v) dX7_next_155 q2625 (by decide) rfl rfl ?_
            refine V_sipush dX7_next_158 (by decide) ?_
            refine V_icmp_gt 183 dX7_next_161 (by decide) (by first | omega | exact hr_g _ _ | decide) (by first | omega | exact hr_g _ _ | decide) (fun c_161 => ?_) (fun c_161 => ?_)
            · refine V_iconst dX7_next_183 ?_
              refine V_goto 188 dX7_next_184 (by decide) ?_
              refine VM_puti 18 dX7_next_188 q2624 (by decide) rfl rfl mfs18 mna18 ?_
              exact V_vret dX7_next_191 rfl (by rw [pT_18]; rw [e1] at K; first | (rw [pIf_t (by omega)] at K; exact K) | (rw [pIf_f (by omega)] at K; exact K))
            · refine V_iload_n dX7_next_164 rfl ?_
              refine V_bipush dX7_next_165 (by decide) ?_
              refine V_icmp_ne 187 dX7_next_167 (by decide) (by first | omega | exact hr_g _ _ | decide) (by first | omega | exact hr_g _ _ | decide) (fun c_167 => ?_) (fun c_167 => ?_)
              · refine V_iconst dX7_next_187 ?_
                refine VM_puti 18 dX7_next_188 q2624 (by decide) rfl rfl mfs18 mna18 ?_
                exact V_vret dX7_next_191 rfl (by rw [pT_18]; rw [e1] at K; first | (rw [pIf_t (by omega)] at K; exact K) | (rw [pIf_f (by omega)] at K; exact K))
              · refine V_aload_n dX7_next_170 rfl ?_
                refine VM_getiE 16 (e) dX7_next_171 q2622 (by decide) rfl rfl ?_
                refine V_aload_n dX7_next_174 rfl ?_
                refine VM_getiE 17 (A) dX7_next_175 q2623 (by decide) rfl rfl ?_
                refine V_iconst dX7_next_178 ?_
                refine V_iadd dX7_next_179 ?_
                refine V_icmp_le 187 dX7_next_180 (by decide) (by first | omega | exact hr_g _ _ | decide) (by first | omega | exact hr_g _ _ | decide) (fun c_180 => ?_) (fun c_180 => ?_)
                · refine V_iconst dX7_next_187 ?_
                  refine VM_puti 18 dX7_next_188 q2624 (by decide) rfl rfl mfs18 mna18 ?_
                  exact V_vret dX7_next_191 rfl (by rw [pT_18]; rw [e1] at K; first | (rw [pIf_t (by omega)] at K; exact K) | (rw [pIf_f (by omega)] at K; exact K))
                · refine V_iconst dX7_next_183 ?_
                  refine V_goto 188 dX7_next_184 (by decide) ?_
                  refine VM_puti 18 dX7_next_188 q2624 (by decide) rfl rfl mfs18 mna18 ?_
                  exact V_vret dX7_next_191 rfl (by rw [pT_18]; rw [e1] at K; first | (rw [pIf_t (by omega)] at K; exact K) | (rw [pIf_f (by omega)] at K; exact K))
        refine V_aload_n dX7_next_38 rfl ?_
        refine V_aload_n dX7_next_39 rfl ?_
        refine VM_getiE 16 (A) dX7_next_40 q2622 (by decide) rfl rfl ?_
        refine VM_puti 17 dX7_next_43 q2623 (by decide) rfl rfl mfs17 mna17 ?_
        refine V_aload_n dX7_next_46 rfl ?_
        refine VM_getiE 16 (A) dX7_next_47 q2622 (by decide) rfl rfl ?_
        refine V_aload_n dX7_next_50 rfl ?_
        refine VM_getiE 15 (g 15 0) dX7_next_51 q2621 (by decide) rfl rfl ?_
        refine V_icmp_ne 63 dX7_next_54 (by decide) (by first | omega | exact hr_g _ _ | decide) (by first | omega | exact hr_g _ _ | decide) (fun c_54 => ?_) (fun c_54 => by exfalso; omega)
        refine V_aload_n dX7_next_63 rfl ?_
        refine VM_geta 14 dX7_next_64 q2620 (by decide) rfl ?_
        refine V_aload_n dX7_next_67 rfl ?_
        refine VM_getiE 16 (A) dX7_next_68 q2622 (by decide) rfl rfl ?_
        refine VM_ialdE 14 (g 14 A) hB dX7_next_71 mar14 rfl (by omega) (by show _ < (160 : Int); omega) (by decide) rfl ?_
        refine V_istore_n dX7_next_72 (by decide) ?_
        refine V_aload_n dX7_next_73 rfl ?_
        refine V_aload_n dX7_next_74 rfl ?_
        refine VM_getiE 16 (A) dX7_next_75 q2622 (by decide) rfl rfl ?_
        refine VM_c1 (M' := mX7_isFigure) okX7_isFigure rfl dX7_next_78 q2777 rfl rfl (Nat.le_of_ble_eq_true rfl) (d' := 2) (b1 := 0) (by decide) (by decide) (c_X7_isFigure hB (by show 0 ≤ A; omega) (by show g 15 0 ≤ 160; omega) (Rng.up (v := A) (Rng.pT (a := A) (s := g 17 0) (o := g 18 0) (v := g 19 0) hr_g (by first | omega | exact hr_g _ _ | decide) (by first | omega | exact hr_g _ _ | decide) (by first | omega | exact hr_g _ _ | decide) (by first | omega | exact hr_g _ _ | decide)) (by first | omega | exact hr_g _ _ | decide)) (by first | omega | exact hr_g _ _ | decide) (fun c_78 => ?_) (fun c_78 => absurd hfg c_78))
        refine V_if_eq 192 dX7_next_81 (by decide) (by first | omega | exact hr_g _ _ | decide) (fun c_81 => absurd c_81 (by decide)) (fun c_81 => ?_)
        refine V_aload_n dX7_next_84 rfl ?_
        refine V_iconst dX7_next_85 ?_
        refine VM_puti 19 dX7_next_86 q2625 (by decide) rfl rfl mfs19 mna19 ?_
        rw [pT_17, pT_19]; exact L2 0 (by omega) rfl rfl
      · have hnf : ¬ isFg (g 14) (g 15 0) A := fun h9 => hf h9.2
        have e1 : pNext g = pT g (A + 1) A (pIf (97 ≤ g 14 A ∧ g 14 A ≤ 122) 1 (pIf (pSg (g 14 A)) 3 5)) (pIf (97 ≤ g 14 A ∧ g 14 A ≤ 122) (g 14 A - 97) (g 14 A)) := by
          rw [hpn]; unfold tkEnd tkSort tkVal; rw [pIf_f hend, pIf_f hend, pIf_f hend, pIf_f hf, pIf_f hf, pIf_f hf]
        refine V_aload_n dX7_next_38 rfl ?_
        refine V_aload_n dX7_next_39 rfl ?_
        refine VM_getiE 16 (A) dX7_next_40 q2622 (by decide) rfl rfl ?_
        refine VM_puti 17 dX7_next_43 q2623 (by decide) rfl rfl mfs17 mna17 ?_
        refine V_aload_n dX7_next_46 rfl ?_
        refine VM_getiE 16 (A) dX7_next_47 q2622 (by decide) rfl rfl ?_
        refine V_aload_n dX7_next_50 rfl ?_
        refine VM_getiE 15 (g 15 0) dX7_next_51 q2621 (by decide) rfl rfl ?_
        refine V_icmp_ne 63 dX7_next_54 (by decide) (by first | omega | exact hr_g _ _ | decide) (by first | omega | exact hr_g _ _ | decide) (fun c_54 => ?_) (fun c_54 => by exfalso; omega)
        refine V_aload_n dX7_next_63 rfl ?_
        refine VM_geta 14 dX7_next_64 q2620 (by decide) rfl ?_
        refine V_aload_n dX7_next_67 rfl ?_
        refine VM_getiE 16 (A) dX7_next_68 q2622 (by decide) rfl rfl ?_
        refine VM_ialdE 14 (g 14 A) hB dX7_next_71 mar14 rfl (by omega) (by show _ < (160 : Int); omega) (by decide) rfl ?_
        refine V_istore_n dX7_next_72 (by decide) ?_
        refine V_aload_n dX7_next_73 rfl ?_
        refine V_aload_n dX7_next_74 rfl ?_
        refine VM_getiE 16 (A) dX7_next_75 q2622 (by decide) rfl rfl ?_
        refine VM_c1 (M' := mX7_isFigure) okX7_isFigure rfl dX7_next_78 q2777 rfl rfl (Nat.le_of_ble_eq_true rfl) (d' := 2) (b1 := 0) (by decide) (by decide) (c_X7_isFigure hB (by show 0 ≤ A; omega) (by show g 15 0 ≤ 160; omega) (Rng.up (v := A) (Rng.pT (a := A) (s := g 17 0) (o := g 18 0) (v := g 19 0) hr_g (by first | omega | exact hr_g _ _ | decide) (by first | omega | exact hr_g _ _ | decide) (by first | omega | exact hr_g _ _ | decide) (by first | omega | exact hr_g _ _ | decide)) (by first | omega | exact hr_g _ _ | decide)) (by first | omega | exact hr_g _ _ | decide) (fun c_78 => absurd c_78 hnf) (fun c_78 => ?_))
        refine V_if_eq 192 dX7_next_81 (by decide) (by first | omega | exact hr_g _ _ | decide) (fun c_81 => ?_) (fun c_81 => absurd c_81 (by decide))
        refine V_aload_n dX7_next_192 rfl ?_
        refine V_dup dX7_next_193 rfl ?_
        refine VM_getiE 16 (A) dX7_next_194 q2622 (by decide) rfl rfl ?_
        refine V_iconst dX7_next_197 ?_
        refine V_iadd dX7_next_198 ?_
        refine VM_puti 16 dX7_next_199 q2622 (by decide) rfl rfl mfs16 mna16 ?_
        refine V_aload_n dX7_next_202 rfl ?_
        refine V_iload_n dX7_next_203 rfl ?_
        refine V_bipush dX7_next_204 (by decide) ?_
        refine V_bipush dX7_next_206 (by decide) ?_
        refine VS_c3 (M' := mX7_in) okX7_in dX7_next_208 q2762 rfl rfl (Nat.le_of_ble_eq_true rfl) (d' := 1) (b1 := 0) (by decide) (by decide) (c_X7_in (by first | omega | exact hr_g _ _ | decide) (by first | omega | exact hr_g _ _ | decide) (by first | omega | exact hr_g _ _ | decide) (fun c_n => ?_) (fun c_n => ?_))
        · refine V_if_eq 221 dX7_next_211 (by decide) (by first | omega | exact hr_g _ _ | decide) (fun c_211 => absurd c_211 (by decide)) (fun c_211 => ?_)
          refine V_iload_n dX7_next_214 rfl ?_
          refine V_bipush dX7_next_215 (by decide) ?_
          refine V_isub dX7_next_217 ?_
          refine V_goto 222 dX7_next_218 (by decide) ?_
          refine VM_puti 19 dX7_next_222 q2625 (by decide) rfl rfl mfs19 mna19 ?_
          refine V_aload_n dX7_next_225 rfl ?_
          refine V_iload_n dX7_next_226 rfl ?_
          refine V_bipush dX7_next_227 (by decide) ?_
          refine V_bipush dX7_next_229 (by decide) ?_
          refine VS_c3 (M' := mX7_in) okX7_in dX7_next_231 q2762 rfl rfl (Nat.le_of_ble_eq_true rfl) (d' := 1) (b1 := 0) (by decide) (by decide) (c_X7_in (by first | omega | exact hr_g _ _ | decide) (by first | omega | exact hr_g _ _ | decide) (by first | omega | exact hr_g _ _ | decide) (fun c_m => ?_) (fun c_m => ?_))
          · refine V_if_eq 241 dX7_next_234 (by decide) (by first | omega | exact hr_g _ _ | decide) (fun c_234 => absurd c_234 (by decide)) (fun c_234 => ?_)
            refine V_iconst dX7_next_237 ?_
            refine V_goto 253 dX7_next_238 (by decide) ?_
            refine VM_puti 18 dX7_next_253 q2624 (by decide) rfl rfl mfs18 mna18 ?_
            exact V_vret dX7_next_256 rfl (by rw [pT_17, pT_16, pT_19, pT_18]; rw [e1] at K; first | (rw [pIf_t c_n, pIf_t c_n] at K; exact K) | (rw [pIf_f c_n, pIf_f c_n] at K; first | (rw [pIf_t c_242] at K; exact K) | (rw [pIf_f c_242] at K; exact K)) | (exfalso; omega))
          · refine V_if_eq 241 dX7_next_234 (by decide) (by first | omega | exact hr_g _ _ | decide) (fun c_234 => ?_) (fun c_234 => absurd c_234 (by decide))
            refine V_iload_n dX7_next_241 rfl ?_
            refine VS_c1 (M' := mX7_isSign) okX7_isSign dX7_next_242 q2781 rfl rfl (Nat.le_of_ble_eq_true rfl) (d' := 1) (b1 := 0) (by decide) (by decide) (c_X7_isSign (by first | omega | exact hr_g _ _ | decide) (fun c_242 => ?_) (fun c_242 => ?_))
            · refine V_if_eq 252 dX7_next_245 (by decide) (by first | omega | exact hr_g _ _ | decide) (fun c_245 => absurd c_245 (by decide)) (fun c_245 => ?_)
              refine V_iconst dX7_next_248 ?_
              refine V_goto 253 dX7_next_249 (by decide) ?_
              refine VM_puti 18 dX7_next_253 q2624 (by decide) rfl rfl mfs18 mna18 ?_
              exact V_vret dX7_next_256 rfl (by rw [pT_17, pT_16, pT_19, pT_18]; rw [e1] at K; first | (rw [pIf_t c_n, pIf_t c_n] at K; exact K) | (rw [pIf_f c_n, pIf_f c_n] at K; first | (rw [pIf_t c_242] at K; exact K) | (rw [pIf_f c_242] at K; exact K)) | (exfalso; omega))
            · refine V_if_eq 252 dX7_next_245 (by decide) (by first | omega | exact hr_g _ _ | decide) (fun c_245 => ?_) (fun c_245 => absurd c_245 (by decide))
              refine V_iconst dX7_next_252 ?_
              refine VM_puti 18 dX7_next_253 q2624 (by decide) rfl rfl mfs18 mna18 ?_
              exact V_vret dX7_next_256 rfl (by rw [pT_17, pT_16, pT_19, pT_18]; rw [e1] at K; first | (rw [pIf_t c_n, pIf_t c_n] at K; exact K) | (rw [pIf_f c_n, pIf_f c_n] at K; first | (rw [pIf_t c_242] at K; exact K) | (rw [pIf_f c_242] at K; exact K)) | (exfalso; omega))
        · refine V_if_eq 221 dX7_next_211 (by decide) (by first | omega | exact hr_g _ _ | decide) (fun c_211 => ?_) (fun c_211 => absurd c_211 (by decide))
          refine V_iload_n dX7_next_221 rfl ?_
          refine VM_puti 19 dX7_next_222 q2625 (by decide) rfl rfl mfs19 mna19 ?_
          refine V_aload_n dX7_next_225 rfl ?_
          refine V_iload_n dX7_next_226 rfl ?_
          refine V_bipush dX7_next_227 (by decide) ?_
          refine V_bipush dX7_next_229 (by decide) ?_
          refine VS_c3 (M' := mX7_in) okX7_in dX7_next_231 q2762 rfl rfl (Nat.le_of_ble_eq_true rfl) (d' := 1) (b1 := 0) (by decide) (by decide) (c_X7_in (by first | omega | exact hr_g _ _ | decide) (by first | omega | exact hr_g _ _ | decide) (by first | omega | exact hr_g _ _ | decide) (fun c_m => ?_) (fun c_m => ?_))
          · refine V_if_eq 241 dX7_next_234 (by decide) (by first | omega | exact hr_g _ _ | decide) (fun c_234 => absurd c_234 (by decide)) (fun c_234 => ?_)
            refine V_iconst dX7_next_237 ?_
            refine V_goto 253 dX7_next_238 (by decide) ?_
            refine VM_puti 18 dX7_next_253 q2624 (by decide) rfl rfl mfs18 mna18 ?_
            exact V_vret dX7_next_256 rfl (by rw [pT_17, pT_16, pT_19, pT_18]; rw [e1] at K; first | (rw [pIf_t c_n, pIf_t c_n] at K; exact K) | (rw [pIf_f c_n, pIf_f c_n] at K; first | (rw [pIf_t c_242] at K; exact K) | (rw [pIf_f c_242] at K; exact K)) | (exfalso; omega))
          · refine V_if_eq 241 dX7_next_234 (by decide) (by first | omega | exact hr_g _ _ | decide) (fun c_234 => ?_) (fun c_234 => absurd c_234 (by decide))
            refine V_iload_n dX7_next_241 rfl ?_
            refine VS_c1 (M' := mX7_isSign) okX7_isSign dX7_next_242 q2781 rfl rfl (Nat.le_of_ble_eq_true rfl) (d' := 1) (b1 := 0) (by decide) (by decide) (c_X7_isSign (by first | omega | exact hr_g _ _ | decide) (fun c_242 => ?_) (fun c_242 => ?_))
            · refine V_if_eq 252 dX7_next_245 (by decide) (by first | omega | exact hr_g _ _ | decide) (fun c_245 => absurd c_245 (by decide)) (fun c_245 => ?_)
              refine V_iconst dX7_next_248 ?_
              refine V_goto 253 dX7_next_249 (by decide) ?_
              refine VM_puti 18 dX7_next_253 q2624 (by decide) rfl rfl mfs18 mna18 ?_
              exact V_vret dX7_next_256 rfl (by rw [pT_17, pT_16, pT_19, pT_18]; rw [e1] at K; first | (rw [pIf_t c_n, pIf_t c_n] at K; exact K) | (rw [pIf_f c_n, pIf_f c_n] at K; first | (rw [pIf_t c_242] at K; exact K) | (rw [pIf_f c_242] at K; exact K)) | (exfalso; omega))
            · refine V_if_eq 252 dX7_next_245 (by decide) (by first | omega | exact hr_g _ _ | decide) (fun c_245 => ?_) (fun c_245 => absurd c_245 (by decide))
              refine V_iconst dX7_next_252 ?_
              refine VM_puti 18 dX7_next_253 q2624 (by decide) rfl rfl mfs18 mna18 ?_
              exact V_vret dX7_next_256 rfl (by rw [pT_17, pT_16, pT_19, pT_18]; rw [e1] at K; first | (rw [pIf_t c_n, pIf_t c_n] at K; exact K) | (rw [pIf_f c_n, pIf_f c_n] at K; first | (rw [pIf_t c_242] at K; exact K) | (rw [pIf_f c_242] at K; exact K)) | (exfalso; omega))
  have L1 : V E mX7_next 3 0 0 [some (.ref am), none] [] (mkM am B h0 (pT g (g 16 0) (g 17 0) (g 18 0) (g 19 0))) Q X := by
    refine loop_upI (P := fun a => tkS (g 14) (g 15 0) a = A → V E mX7_next 3 0 0 [some (.ref am), none] [] (mkM am B h0 (pT g a (g 17 0) (g 18 0) (g 19 0))) Q X) (g 16 0) (g 15 0) (fun a h1 h2 ih => ?_) ha1 hA
    intro hS
    refine V_aload_n dX7_next_0 rfl ?_
    refine VM_getiE 16 (a) dX7_next_1 q2622 (by decide) rfl rfl ?_
    refine V_aload_n dX7_next_4 rfl ?_
    refine VM_getiE 15 (g 15 0) dX7_next_5 q2621 (by decide) rfl rfl ?_
    refine V_icmp_ge 38 dX7_next_8 (by decide) (by first | omega | exact hr_g _ _ | decide) (by first | omega | exact hr_g _ _ | decide) (fun c_8 => ?_) (fun c_8 => ?_)
    · rw [tkS_e (by omega)] at hS; rw [hS]; exact E1
    · refine V_aload_n dX7_next_11 rfl ?_
      refine VM_geta 14 dX7_next_12 q2620 (by decide) rfl ?_
      refine V_aload_n dX7_next_15 rfl ?_
      refine VM_getiE 16 (a) dX7_next_16 q2622 (by decide) rfl rfl ?_
      refine VM_ialdE 14 (g 14 a) hB dX7_next_19 mar14 rfl (by omega) (by show _ < (160 : Int); omega) (by decide) rfl ?_
      refine V_bipush dX7_next_20 (by decide) ?_
      refine V_icmp_ne 38 dX7_next_22 (by decide) (by first | omega | exact hr_g _ _ | decide) (by first | omega | exact hr_g _ _ | decide) (fun c_22 => ?_) (fun c_22 => ?_)
      · rw [tkS_e (by omega)] at hS; rw [hS]; exact E1
      · refine V_aload_n dX7_next_25 rfl ?_
        refine V_dup dX7_next_26 rfl ?_
        refine VM_getiE 16 (a) dX7_next_27 q2622 (by decide) rfl rfl ?_
        refine V_iconst dX7_next_30 ?_
        refine V_iadd dX7_next_31 ?_
        refine VM_puti 16 dX7_next_32 q2622 (by decide) rfl rfl mfs16 mna16 ?_
        refine V_goto 0 dX7_next_35 (by decide) ?_
        rw [pT_16]; exact ih (by omega) (by rw [← tkS_s (by omega) (by omega)]; exact hS)
  rw [pT_self] at L1
  exact L1
end M1
