/-! THE REFERENCE'S METHODS, part 20: back to what was noted or kept -/
def aUndo (g : MG) : Int := if g 11 0 = 0 then -2 else g 11 0 - 1
def pUndo (g : MG) : MG := if g 11 0 = 0 then g else gset (gup g 11 0 (g 11 0 - 1)) 9 (acp (g 9) (g 10) 0 209 (209 * (g 11 0 - 1)))
def aKeep (g : MG) (i : Int) : Int := if 0 ≤ i ∧ i ≤ 1 then g 9 0 else -1
def pKeep (g : MG) (i : Int) : MG := if 0 ≤ i ∧ i ≤ 1 then gup (gset g 12 (acp (g 12) (g 9) (209 * i) (209 * i + 209) (-(209 * i)))) 13 i 1 else g
def aBack (g : MG) (i : Int) : Int := if 0 ≤ i ∧ i ≤ 1 then (if g 13 i = 0 then -2 else g 12 (209 * i)) else -1
def pBack (g : MG) (i : Int) : MG := if (0 ≤ i ∧ i ≤ 1) ∧ g 13 i ≠ 0 then gup (gset g 9 (acp (g 9) (g 12) 0 209 (209 * i))) 11 0 0 else g
section M20
variable {E : Ev} {am : Nat} {B : Nat → Nat} {h0 h : AH} {g : MG} {Q : Value → AH → Prop} {X : Nat → AH → Prop}
theorem c_undo22 (hB : MB am B) (hr_g : Rng g) (h11 : 0 ≤ g 11 0 ∧ g 11 0 ≤ 5) (K : Q (vI (g 11 0)) (mkM am B h0 (gset g 9 (acp (g 9) (g 10) 0 209 (209 * g 11 0))))) : V E mX7_undo 1 0 22 [some (.ref am), some (vI 0)] [] (mkM am B h0 g) Q X := by
  have L : V E mX7_undo 1 0 22 [some (.ref am), some (vI 0)] [] (mkM am B h0 (gset g 9 (acp (g 9) (g 10) 0 0 (209 * g 11 0)))) Q X := by
    refine loop_upI (P := fun i => V E mX7_undo 1 0 22 [some (.ref am), some (vI i)] [] (mkM am B h0 (gset g 9 (acp (g 9) (g 10) 0 i (209 * g 11 0)))) Q X) 0 209 (fun i h1 h2 ih => ?_) (by omega)
    have hrA : Rng (gset g 9 (acp (g 9) (g 10) 0 i (209 * g 11 0))) := hr_g.set (acp_r (hr_g 9) (hr_g 10))
    by_cases hi : i = 209
    · subst hi
      refine V_iload_n dX7_undo_22 rfl ?_
      refine V_sipush dX7_undo_23 (by decide) ?_
      refine V_icmp_ge 56 dX7_undo_26 (by decide) (by first | omega | exact hr_g _ _ | decide) (by first | omega | exact hr_g _ _ | decide) (fun c_26 => ?_) (fun c_26 => absurd c_26 (by decide))
      refine V_aload_n dX7_undo_56 rfl ?_
      refine VM_getiE 11 (g 11 0) dX7_undo_57 q2617 (by decide) rfl rfl ?_
      exact V_iret dX7_undo_60 rfl (by exact K)
    · refine V_iload_n dX7_undo_22 rfl ?_
      refine V_sipush dX7_undo_23 (by decide) ?_
      refine V_icmp_ge 56 dX7_undo_26 (by decide) (by first | omega | exact hr_g _ _ | decide) (by first | omega | exact hr_g _ _ | decide) (fun c_26 => by exfalso; omega) (fun c_26 => ?_)
      refine V_aload_n dX7_undo_29 rfl ?_
      refine VM_geta 9 dX7_undo_30 q2615 (by decide) rfl ?_
      refine V_iload_n dX7_undo_33 rfl ?_
      refine V_aload_n dX7_undo_34 rfl ?_
      refine VM_geta 10 dX7_undo_35 q2616 (by decide) rfl ?_
      refine V_sipush dX7_undo_38 (by decide) ?_
      refine V_aload_n dX7_undo_41 rfl ?_
      refine VM_getiE 11 (g 11 0) dX7_undo_42 q2617 (by decide) rfl rfl ?_
      refine V_imul dX7_undo_45 ?_
      refine V_iload_n dX7_undo_46 rfl ?_
      refine V_iadd dX7_undo_47 ?_
      refine VM_ialdE 10 (g 10 ((209 * (g 11 0)) + i)) hB dX7_undo_48 mar10 rfl (by first | omega | (simp [gup, aup]; omega)) (by show _ < (1254 : Int); first | omega | (simp [gup, aup]; omega)) (by decide) rfl ?_
      refine VM_iast 9 hB dX7_undo_49 mar9 rfl mfa9 (by first | omega | (simp [gup, aup]; omega)) (by show _ < (209 : Int); first | omega | (simp [gup, aup]; omega)) (by decide) ?_
      refine V_iinc dX7_undo_50 rfl (by decide) ?_
      refine V_goto 22 dX7_undo_53 (by decide) ?_
      rw [gset_up, show 209 * g 11 0 + i = i + 209 * g 11 0 by omega, acp_s h1]; exact ih (by omega)
  rw [acp_0, gset_self] at L
  exact L
theorem c_X7_undo (hB : MB am B) (hr_g : Rng g) (h11 : 0 ≤ g 11 0 ∧ g 11 0 ≤ 6) (K : Q (vI (aUndo g)) (mkM am B h0 (pUndo g))) : V E mX7_undo 1 0 0 [some (.ref am), none] [] (mkM am B h0 g) Q X := by
  unfold aUndo pUndo at K
  by_cases c : g 11 0 = 0
  · rw [if_pos c, if_pos c] at K
    refine V_aload_n dX7_undo_0 rfl ?_
    refine VM_getiE 11 (g 11 0) dX7_undo_1 q2617 (by decide) rfl rfl ?_
    refine V_if_ne 10 dX7_undo_4 (by decide) (by first | omega | exact hr_g _ _ | decide) (fun c_4 => by exfalso; omega) (fun c_4 => ?_)
    refine V_bipush dX7_undo_7 (by decide) ?_
    exact V_iret dX7_undo_9 rfl (by exact K)
  · rw [if_neg c, if_neg c] at K
    have hrU : Rng (gup g 11 0 (g 11 0 - 1)) := hr_g.up (by constructor <;> omega)
    refine V_aload_n dX7_undo_0 rfl ?_
    refine VM_getiE 11 (g 11 0) dX7_undo_1 q2617 (by decide) rfl rfl ?_
    refine V_if_ne 10 dX7_undo_4 (by decide) (by first | omega | exact hr_g _ _ | decide) (fun c_4 => ?_) (fun c_4 => by exfalso; omega)
    refine V_aload_n dX7_undo_10 rfl ?_
    refine V_dup dX7_undo_11 rfl ?_
    refine VM_getiE 11 (g 11 0) dX7_undo_12 q2617 (by decide) rfl rfl ?_
    refine V_iconst dX7_undo_15 ?_
    refine V_isub dX7_undo_16 ?_
    refine VM_puti 11 dX7_undo_17 q2617 (by decide) rfl rfl mfs11 mna11 ?_
    refine V_iconst dX7_undo_20 ?_
    refine V_istore_n dX7_undo_21 (by decide) ?_
    exact c_undo22 hB hrU (by show 0 ≤ g 11 0 - 1 ∧ g 11 0 - 1 ≤ 5; omega) K
theorem c_X7_keep (hB : MB am B) (hr_g : Rng g) {i : Int} (hi : inr i) (K : Q (vI (aKeep g i)) (mkM am B h0 (pKeep g i))) : V E mX7_keep 2 0 0 [some (.ref am), some (vI i), none] [] (mkM am B h0 g) Q X := by
  unfold aKeep pKeep at K
  by_cases c1 : 0 ≤ i ∧ i ≤ 1
  · rw [if_pos c1, if_pos c1] at K
    have L : V E mX7_keep 2 0 13 [some (.ref am), some (vI i), some (vI 0)] [] (mkM am B h0 (gset g 12 (acp (g 12) (g 9) (209 * i) (209 * i + 0) (-(209 * i))))) Q X := by
      refine loop_upI (P := fun k => V E mX7_keep 2 0 13 [some (.ref am), some (vI i), some (vI k)] [] (mkM am B h0 (gset g 12 (acp (g 12) (g 9) (209 * i) (209 * i + k) (-(209 * i))))) Q X) 0 209 (fun k h1 h2 ih => ?_) (by omega)
      have hrA : Rng (gset g 12 (acp (g 12) (g 9) (209 * i) (209 * i + k) (-(209 * i)))) := hr_g.set (acp_r (hr_g 12) (hr_g 9))
      by_cases hk : k = 209
      · subst hk
        refine V_iload_n dX7_keep_13 rfl ?_
        refine V_sipush dX7_keep_14 (by decide) ?_
        refine V_icmp_ge 44 dX7_keep_17 (by decide) (by first | omega | exact hr_g _ _ | decide) (by first | omega | exact hr_g _ _ | decide) (fun c_17 => ?_) (fun c_17 => absurd c_17 (by decide))
        refine V_aload_n dX7_keep_44 rfl ?_
        refine VM_geta 13 dX7_keep_45 q2619 (by decide) rfl ?_
        refine V_iload_n dX7_keep_48 rfl ?_
        refine V_iconst dX7_keep_49 ?_
        refine VM_zast 13 hB dX7_keep_50 mar13 rfl mfa13 (by first | decide | omega) (by first | omega | (simp [gup, aup]; omega)) (by show _ < (2 : Int); first | omega | (simp [gup, aup]; omega)) (by decide) ?_
        refine V_aload_n dX7_keep_51 rfl ?_
        refine VM_geta 9 dX7_keep_52 q2615 (by decide) rfl ?_
        refine V_iconst dX7_keep_55 ?_
        refine VM_ialdE 9 (g 9 0) hB dX7_keep_56 mar9 rfl (by first | omega | (simp [gup, aup]; omega)) (by show _ < (209 : Int); first | omega | (simp [gup, aup]; omega)) (by decide) rfl ?_
        exact V_iret dX7_keep_57 rfl (by exact K)
      · refine V_iload_n dX7_keep_13 rfl ?_
        refine V_sipush dX7_keep_14 (by decide) ?_
        refine V_icmp_ge 44 dX7_keep_17 (by decide) (by first | omega | exact hr_g _ _ | decide) (by first | omega | exact hr_g _ _ | decide) (fun c_17 => by exfalso; omega) (fun c_17 => ?_)
        refine V_aload_n dX7_keep_20 rfl ?_
        refine VM_geta 12 dX7_keep_21 q2618 (by decide) rfl ?_
        refine V_sipush dX7_keep_24 (by decide) ?_
        refine V_iload_n dX7_keep_27 rfl ?_
        refine V_imul dX7_keep_28 ?_
        refine V_iload_n dX7_keep_29 rfl ?_
        refine V_iadd dX7_keep_30 ?_
        refine V_aload_n dX7_keep_31 rfl ?_
        refine VM_geta 9 dX7_keep_32 q2615 (by decide) rfl ?_
        refine V_iload_n dX7_keep_35 rfl ?_
        refine VM_ialdE 9 (g 9 k) hB dX7_keep_36 mar9 rfl (by first | omega | (simp [gup, aup]; omega)) (by show _ < (209 : Int); first | omega | (simp [gup, aup]; omega)) (by decide) rfl ?_
        refine VM_iast 12 hB dX7_keep_37 mar12 rfl mfa12 (by first | omega | (simp [gup, aup]; omega)) (by show _ < (418 : Int); first | omega | (simp [gup, aup]; omega)) (by decide) ?_
        refine V_iinc dX7_keep_38 rfl (by decide) ?_
        refine V_goto 13 dX7_keep_41 (by decide) ?_
        refine V_st ?_ (ih (by omega)); rw [gset_up]; have a1 := acp_s (a := g 12) (b := g 9) (lo := 209 * i) (i := 209 * i + k) (m := -(209 * i)) (by omega); rw [show 209 * i + k + -(209 * i) = k by omega, show 209 * i + k + 1 = 209 * i + (k + 1) by omega] at a1; rw [a1]
    rw [Int.add_zero, acp_0, gset_self] at L
    refine V_iload_n dX7_keep_0 rfl ?_
    refine V_iconst dX7_keep_1 ?_
    refine V_iconst dX7_keep_2 ?_
    refine VS_c3 (M' := mX7_in) okX7_in dX7_keep_3 q2762 rfl rfl (Nat.le_of_ble_eq_true rfl) (d' := 1) (b1 := 0) (by decide) (by decide) (c_X7_in (by first | omega | exact hr_g _ _ | decide) (by first | omega | exact hr_g _ _ | decide) (by first | omega | exact hr_g _ _ | decide) (fun c_20 => ?_) (fun c_20 => absurd c1 c_20))
    refine V_if_ne 11 dX7_keep_6 (by decide) (by first | omega | exact hr_g _ _ | decide) (fun c_6 => ?_) (fun c_6 => absurd c_6 (by decide))
    refine V_iconst dX7_keep_11 ?_
    refine V_istore_n dX7_keep_12 (by decide) ?_
    exact L
  · rw [if_neg c1, if_neg c1] at K
    refine V_iload_n dX7_keep_0 rfl ?_
    refine V_iconst dX7_keep_1 ?_
    refine V_iconst dX7_keep_2 ?_
    refine VS_c3 (M' := mX7_in) okX7_in dX7_keep_3 q2762 rfl rfl (Nat.le_of_ble_eq_true rfl) (d' := 1) (b1 := 0) (by decide) (by decide) (c_X7_in (by first | omega | exact hr_g _ _ | decide) (by first | omega | exact hr_g _ _ | decide) (by first | omega | exact hr_g _ _ | decide) (fun c_20 => absurd c_20 c1) (fun c_20 => ?_))
    refine V_if_ne 11 dX7_keep_6 (by decide) (by first | omega | exact hr_g _ _ | decide) (fun c_6 => absurd c_6 (by decide)) (fun c_6 => ?_)
    refine V_iconst dX7_keep_9 ?_
    exact V_iret dX7_keep_10 rfl (by exact K)
theorem c_X7_back (hB : MB am B) (hr_g : Rng g) {i : Int} (hi : inr i) (K : Q (vI (aBack g i)) (mkM am B h0 (pBack g i))) : V E mX7_back 2 0 0 [some (.ref am), some (vI i), none] [] (mkM am B h0 g) Q X := by
  unfold aBack pBack at K
  by_cases c1 : 0 ≤ i ∧ i ≤ 1
  · rw [if_pos c1] at K
    by_cases c2 : g 13 i = 0
    · rw [if_pos c2, if_neg (fun h => h.2 c2)] at K
      refine V_iload_n dX7_back_0 rfl ?_
      refine V_iconst dX7_back_1 ?_
      refine V_iconst dX7_back_2 ?_
      refine VS_c3 (M' := mX7_in) okX7_in dX7_back_3 q2762 rfl rfl (Nat.le_of_ble_eq_true rfl) (d' := 1) (b1 := 0) (by decide) (by decide) (c_X7_in (by first | omega | exact hr_g _ _ | decide) (by first | omega | exact hr_g _ _ | decide) (by first | omega | exact hr_g _ _ | decide) (fun c_20 => ?_) (fun c_20 => absurd c1 c_20))
      refine V_if_ne 11 dX7_back_6 (by decide) (by first | omega | exact hr_g _ _ | decide) (fun c_6 => ?_) (fun c_6 => absurd c_6 (by decide))
      refine V_aload_n dX7_back_11 rfl ?_
      refine VM_geta 13 dX7_back_12 q2619 (by decide) rfl ?_
      refine V_iload_n dX7_back_15 rfl ?_
      refine VM_zaldE 13 (g 13 i) hB dX7_back_16 mar13 rfl (by first | omega | (simp [gup, aup]; omega)) (by show _ < (2 : Int); first | omega | (simp [gup, aup]; omega)) (by decide) rfl ?_
      refine V_if_ne 23 dX7_back_17 (by decide) (by first | omega | exact hr_g _ _ | decide) (fun c_17 => by exfalso; omega) (fun c_17 => ?_)
      refine V_bipush dX7_back_20 (by decide) ?_
      exact V_iret dX7_back_22 rfl (by exact K)
    · rw [if_neg c2, if_pos ⟨c1, c2⟩] at K
      have L : V E mX7_back 2 0 25 [some (.ref am), some (vI i), some (vI 0)] [] (mkM am B h0 (gset g 9 (acp (g 9) (g 12) 0 0 (209 * i)))) Q X := by
        refine loop_upI (P := fun k => V E mX7_back 2 0 25 [some (.ref am), some (vI i), some (vI k)] [] (mkM am B h0 (gset g 9 (acp (g 9) (g 12) 0 k (209 * i)))) Q X) 0 209 (fun k h1 h2 ih => ?_) (by omega)
        have hrA : Rng (gset g 9 (acp (g 9) (g 12) 0 k (209 * i))) := hr_g.set (acp_r (hr_g 9) (hr_g 12))
        by_cases hk : k = 209
        · subst hk
          refine V_iload_n dX7_back_25 rfl ?_
          refine V_sipush dX7_back_26 (by decide) ?_
          refine V_icmp_ge 56 dX7_back_29 (by decide) (by first | omega | exact hr_g _ _ | decide) (by first | omega | exact hr_g _ _ | decide) (fun c_29 => ?_) (fun c_29 => absurd c_29 (by decide))
          refine V_aload_n dX7_back_56 rfl ?_
          refine V_iconst dX7_back_57 ?_
          refine VM_puti 11 dX7_back_58 q2617 (by decide) rfl rfl mfs11 mna11 ?_
          refine V_aload_n dX7_back_61 rfl ?_
          refine VM_geta 9 dX7_back_62 q2615 (by decide) rfl ?_
          refine V_iconst dX7_back_65 ?_
          refine VM_ialdE 9 (((acp (g 9) (g 12) 0 209 (209 * i))) 0) hB dX7_back_66 mar9 rfl (by first | omega | (simp [gup, aup]; omega)) (by show _ < (209 : Int); first | omega | (simp [gup, aup]; omega)) (by decide) rfl ?_
          exact V_iret dX7_back_67 rfl (by have e : acp (g 9) (g 12) 0 209 (209 * i) 0 = g 12 (209 * i) := (by unfold acp; rw [if_pos (by omega), Int.zero_add]); rw [e]; exact K)
        · refine V_iload_n dX7_back_25 rfl ?_
          refine V_sipush dX7_back_26 (by decide) ?_
          refine V_icmp_ge 56 dX7_back_29 (by decide) (by first | omega | exact hr_g _ _ | decide) (by first | omega | exact hr_g _ _ | decide) (fun c_29 => by exfalso; omega) (fun c_29 => ?_)
          refine V_aload_n dX7_back_32 rfl ?_
          refine VM_geta 9 dX7_back_33 q2615 (by decide) rfl ?_
          refine V_iload_n dX7_back_36 rfl ?_
          refine V_aload_n dX7_back_37 rfl ?_
          refine VM_geta 12 dX7_back_38 q2618 (by decide) rfl ?_
          refine V_sipush dX7_back_41 (by decide) ?_
          refine V_iload_n dX7_back_44 rfl ?_
          refine V_imul dX7_back_45 ?_
          refine V_iload_n dX7_back_46 rfl ?_
          refine V_iadd dX7_back_47 ?_
          refine VM_ialdE 12 (g 12 ((209 * i) + k)) hB dX7_back_48 mar12 rfl (by first | omega | (simp [gup, aup]; omega)) (by show _ < (418 : Int); first | omega | (simp [gup, aup]; omega)) (by decide) rfl ?_
          refine VM_iast 9 hB dX7_back_49 mar9 rfl mfa9 (by first | omega | (simp [gup, aup]; omega)) (by show _ < (209 : Int); first | omega | (simp [gup, aup]; omega)) (by decide) ?_
          refine V_iinc dX7_back_50 rfl (by decide) ?_
          refine V_goto 25 dX7_back_53 (by decide) ?_
          rw [gset_up, show 209 * i + k = k + 209 * i by omega, acp_s h1]; exact ih (by omega)
      rw [acp_0, gset_self] at L
      refine V_iload_n dX7_back_0 rfl ?_
      refine V_iconst dX7_back_1 ?_
      refine V_iconst dX7_back_2 ?_
      refine VS_c3 (M' := mX7_in) okX7_in dX7_back_3 q2762 rfl rfl (Nat.le_of_ble_eq_true rfl) (d' := 1) (b1 := 0) (by decide) (by decide) (c_X7_in (by first | omega | exact hr_g _ _ | decide) (by first | omega | exact hr_g _ _ | decide) (by first | omega | exact hr_g _ _ | decide) (fun c_20 => ?_) (fun c_20 => absurd c1 c_20))
      refine V_if_ne 11 dX7_back_6 (by decide) (by first | omega | exact hr_g _ _ | decide) (fun c_6 => ?_) (fun c_6 => absurd c_6 (by decide))
      refine V_aload_n dX7_back_11 rfl ?_
      refine VM_geta 13 dX7_back_12 q2619 (by decide) rfl ?_
      refine V_iload_n dX7_back_15 rfl ?_
      refine VM_zaldE 13 (g 13 i) hB dX7_back_16 mar13 rfl (by first | omega | (simp [gup, aup]; omega)) (by show _ < (2 : Int); first | omega | (simp [gup, aup]; omega)) (by decide) rfl ?_
      refine V_if_ne 23 dX7_back_17 (by decide) (by first | omega | exact hr_g _ _ | decide) (fun c_17 => ?_) (fun c_17 => by exfalso; omega)
      refine V_iconst dX7_back_23 ?_
      refine V_istore_n dX7_back_24 (by decide) ?_
      exact L
  · rw [if_neg c1, if_neg (fun h => c1 h.1)] at K
    refine V_iload_n dX7_back_0 rfl ?_
    refine V_iconst dX7_back_1 ?_
    refine V_iconst dX7_back_2 ?_
    refine VS_c3 (M' := mX7_in) okX7_in dX7_back_3 q2762 rfl rfl (Nat.le_of_ble_eq_true rfl) (d' := 1) (b1 := 0) (by decide) (by decide) (c_X7_in (by first | omega | exact hr_g _ _ | decide) (by first | omega | exact hr_g _ _ | decide) (by first | omega | exact hr_g _ _ | decide) (fun c_20 => absurd c_20 c1) (fun c_20 => ?_))
    refine V_if_ne 11 dX7_back_6 (by decide) (by first | omega | exact hr_g _ _ | decide) (fun c_6 => absurd c_6 (by decide)) (fun c_6 => ?_)
    refine V_iconst dX7_back_9 ?_
    exact V_iret dX7_back_10 rfl (by exact K)
end M20
