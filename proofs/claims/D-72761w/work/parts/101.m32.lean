/-! THE REFERENCE'S METHODS, part 32: a path's names -/
/-- names behind a scope, some steps up -/
def pthN (g : MG) : Nat → Int → Int → Int
  | 0, name, _ => name
  | r + 1, _, sc => pthN g r (g 5 sc) (g 4 sc)
def aPath (g : MG) (n k : Int) : Int := if (0 ≤ n ∧ n < g 1 0) ∧ 0 ≤ k then (if 1 + dpt (g 4) 8 (g 0 (6 * n + 3)) ≤ k then -9 else pthN g (dpt (g 4) 8 (g 0 (6 * n + 3)) - k).toNat (g 0 (6 * n + 4)) (g 0 (6 * n + 3))) else -1
theorem dpt_le {w : Int → Int} : ∀ (f : Nat) (k : Int), dpt w f k ≤ f := by
  intro f
  induction f with
  | zero => intro k; unfold dpt; omega
  | succ f ih =>
    intro k
    unfold dpt
    split
    · omega
    · have := ih (w k); omega
theorem dpt_s {g : MG} (hb : BI g) {k : Int} (h : 0 ≤ k ∧ k < g 6 0) : dpt (g 4) 8 k = 1 + dpt (g 4) 8 (g 4 k) := by
  have h6 := hb.2.2.1
  have hw := fun k k1 k2 => (hb.2.2.2.2 k k1 k2).1
  have e : dpt (g 4) 8 k = if k = -9 then 0 else 1 + dpt (g 4) 7 (g 4 k) := rfl
  have := hw k h.1 h.2
  rw [e, if_neg (by omega), dpt_f (n := g 6 0) (w := g 4) hw (fun _ _ _ => rfl) 7 8 (g 4 k) (by omega) (by omega) (by omega)]
section M32
variable {E : Ev} {am : Nat} {B : Nat → Nat} {h0 h : AH} {g : MG} {Q : Value → AH → Prop} {X : Nat → AH → Prop}
theorem c_X7_path (hB : MB am B) (hr_g : Rng g) {n k : Int} (hni : inr n) (hki : inr k) (hb : BI g) (K : Q (vI (aPath g n k)) (mkM am B h0 g)) : V E mX7_path 3 0 0 [some (.ref am), some (vI n), some (vI k), none, none, none, none] [] (mkM am B h0 g) Q X := by
  have hb1 := hb.1
  have h6 := hb.2.2.1
  unfold aPath at K
  by_cases cc : (0 ≤ n ∧ n < g 1 0) ∧ 0 ≤ k
  · rw [if_pos cc] at K
    have hN := (hb.2.2.2.1 n cc.1.1 cc.1.2).2
    have hsc := hN.1
    have L46 : ∀ v4 : Option Value, V E mX7_path 3 0 46 [some (.ref am), some (vI n), some (vI k), some (vI (1 + dpt (g 4) 8 (g 0 (6 * n + 3)))), v4, none, none] [] (mkM am B h0 g) Q X := by
      intro v4
      have hd0 := dpt_nn (w := g 4) 8 (g 0 (6 * n + 3))
      have hd1 := dpt_le (w := g 4) 8 (g 0 (6 * n + 3))
      by_cases ck : 1 + dpt (g 4) 8 (g 0 (6 * n + 3)) ≤ k
      · rw [if_pos ck] at K
        generalize dpt (g 4) 8 (g 0 (6 * n + 3)) = d at *
        refine V_iload_n dX7_path_46 rfl ?_
        refine V_iload_n dX7_path_47 rfl ?_
        refine V_icmp_lt 54 dX7_path_48 (by decide) (by first | omega | exact hr_g _ _ | decide) (by first | omega | exact hr_g _ _ | decide) (fun c_48 => by exfalso; omega) (fun c_48 => ?_)
        refine V_bipush dX7_path_51 (by decide) ?_
        exact V_iret dX7_path_53 rfl (by exact K)
      · rw [if_neg ck] at K
        have L75 : ∀ (r : Nat) (name sc : Int), (sc = -9 ∨ (0 ≤ sc ∧ sc < g 6 0)) → k + r = dpt (g 4) 8 sc → Q (vI (pthN g r name sc)) (mkM am B h0 g) → ∀ v3, V E mX7_path 3 0 75 [some (.ref am), some (vI n), some (vI k), v3, some (vI name), some (vI sc), some (vI (k + r))] [] (mkM am B h0 g) Q X := by
          intro r
          induction r with
          | zero =>
            intro name sc hsc hd hQ v3
            have hd0 := dpt_nn (w := g 4) 8 sc
            have hd1 := dpt_le (w := g 4) 8 sc
            refine V_iload dX7_path_75 rfl ?_
            refine V_iload_n dX7_path_77 rfl ?_
            refine V_icmp_le 105 dX7_path_78 (by decide) (by first | omega | exact hr_g _ _ | decide) (by first | omega | exact hr_g _ _ | decide) (fun c_78 => ?_) (fun c_78 => by exfalso; omega)
            refine V_iload dX7_path_105 rfl ?_
            exact V_iret dX7_path_107 rfl (by exact hQ)
          | succ r ih =>
            intro name sc hsc hd hQ v3
            have hd0 := dpt_nn (w := g 4) 8 sc
            have hd1 := dpt_le (w := g 4) 8 sc
            have hs0 : 0 ≤ sc ∧ sc < g 6 0 := by
              rcases hsc with e | e
              · rw [e, dpt_0] at hd; omega
              · exact e
            have hst := dpt_s hb hs0
            have hw := (hb.2.2.2.2 sc hs0.1 hs0.2).1
            have ih := ih (g 5 sc) (g 4 sc) (by omega) (by omega) hQ v3
            have e : k + ((r + 1 : Nat) : Int) + (-1) = k + (r : Int) := by omega
            refine V_iload dX7_path_75 rfl ?_
            refine V_iload_n dX7_path_77 rfl ?_
            refine V_icmp_le 105 dX7_path_78 (by decide) (by first | omega | exact hr_g _ _ | decide) (by first | omega | exact hr_g _ _ | decide) (fun c_78 => by exfalso; omega) (fun c_78 => ?_)
            refine V_aload_n dX7_path_81 rfl ?_
            refine VM_geta 5 dX7_path_82 q2611 (by decide) rfl ?_
            refine V_iload dX7_path_85 rfl ?_
            refine VM_ialdE 5 (g 5 sc) hB dX7_path_87 mar5 rfl (by first | omega | (simp [gup, aup]; omega)) (by show _ < (6 : Int); first | omega | (simp [gup, aup]; omega)) (by decide) rfl ?_
            refine V_istore dX7_path_88 (by decide) ?_
            refine V_aload_n dX7_path_90 rfl ?_
            refine VM_geta 4 dX7_path_91 q2610 (by decide) rfl ?_
            refine V_iload dX7_path_94 rfl ?_
            refine VM_ialdE 4 (g 4 sc) hB dX7_path_96 mar4 rfl (by first | omega | (simp [gup, aup]; omega)) (by show _ < (6 : Int); first | omega | (simp [gup, aup]; omega)) (by decide) rfl ?_
            refine V_istore dX7_path_97 (by decide) ?_
            refine V_iinc dX7_path_99 rfl (by decide) ?_
            refine V_goto 75 dX7_path_102 (by decide) ?_
            rw [e]; exact ih
        have hpt := L75 (dpt (g 4) 8 (g 0 (6 * n + 3)) - k).toNat (g 0 (6 * n + 4)) (g 0 (6 * n + 3)) (by omega) (by omega) K
        have e : 1 + dpt (g 4) 8 (g 0 (6 * n + 3)) - 1 = k + ((dpt (g 4) 8 (g 0 (6 * n + 3)) - k).toNat : Int) := by omega
        generalize dpt (g 4) 8 (g 0 (6 * n + 3)) = d at *
        refine V_iload_n dX7_path_46 rfl ?_
        refine V_iload_n dX7_path_47 rfl ?_
        refine V_icmp_lt 54 dX7_path_48 (by decide) (by first | omega | exact hr_g _ _ | decide) (by first | omega | exact hr_g _ _ | decide) (fun c_48 => ?_) (fun c_48 => by exfalso; omega)
        refine V_aload_n dX7_path_54 rfl ?_
        refine V_iload_n dX7_path_55 rfl ?_
        refine V_iconst dX7_path_56 ?_
        refine VM_c2 (M' := mX7_of) okX7_of rfl dX7_path_57 q2860 rfl rfl (Nat.le_of_ble_eq_true rfl) (d' := 1) (b1 := 0) (by decide) (by decide) (c_X7_of hB (by first | omega | (simp [gup, aup]; omega)) (by first | omega | (simp [gup, aup]; omega)) ?_)
        refine V_top (g 0 (6 * n + 4)) (by exact rfl) ?_
        refine V_istore dX7_path_60 (by decide) ?_
        refine V_aload_n dX7_path_62 rfl ?_
        refine V_iload_n dX7_path_63 rfl ?_
        refine V_iconst dX7_path_64 ?_
        refine VM_c2 (M' := mX7_of) okX7_of rfl dX7_path_65 q2860 rfl rfl (Nat.le_of_ble_eq_true rfl) (d' := 1) (b1 := 0) (by decide) (by decide) (c_X7_of hB (by first | omega | (simp [gup, aup]; omega)) (by first | omega | (simp [gup, aup]; omega)) ?_)
        refine V_top (g 0 (6 * n + 3)) (by exact rfl) ?_
        refine V_istore dX7_path_68 (by decide) ?_
        refine V_iload_n dX7_path_70 rfl ?_
        refine V_iconst dX7_path_71 ?_
        refine V_isub dX7_path_72 ?_
        refine V_istore dX7_path_73 (by decide) ?_
        rw [e]; exact hpt _
    have L24 : ∀ (m : Nat) (sc many : Int), (sc = -9 ∨ (0 ≤ sc ∧ sc < g 6 0)) → sc + 10 ≤ m → many + dpt (g 4) 8 sc = 1 + dpt (g 4) 8 (g 0 (6 * n + 3)) → V E mX7_path 3 0 24 [some (.ref am), some (vI n), some (vI k), some (vI many), some (vI sc), none, none] [] (mkM am B h0 g) Q X := by
      intro m
      induction m with
      | zero => intro sc many hs hm; omega
      | succ m ih =>
        intro sc many hs hm hd
        by_cases c9 : sc = -9
        · subst c9
          rw [dpt_0, Int.add_zero] at hd
          subst hd
          refine V_iload dX7_path_24 rfl ?_
          refine V_bipush dX7_path_26 (by decide) ?_
          refine V_icmp_eq 46 dX7_path_28 (by decide) (by first | omega | exact hr_g _ _ | decide) (by first | omega | exact hr_g _ _ | decide) (fun c_28 => ?_) (fun c_28 => absurd c_28 (by decide))
          exact L46 _
        · have hs0 : 0 ≤ sc ∧ sc < g 6 0 := by omega
          have hst := dpt_s hb hs0
          have hw := (hb.2.2.2.2 sc hs0.1 hs0.2).1
          refine V_iload dX7_path_24 rfl ?_
          refine V_bipush dX7_path_26 (by decide) ?_
          refine V_icmp_eq 46 dX7_path_28 (by decide) (by first | omega | exact hr_g _ _ | decide) (by first | omega | exact hr_g _ _ | decide) (fun c_28 => by exfalso; omega) (fun c_28 => ?_)
          refine V_iinc dX7_path_31 rfl (by decide) ?_
          refine V_aload_n dX7_path_34 rfl ?_
          refine VM_geta 4 dX7_path_35 q2610 (by decide) rfl ?_
          refine V_iload dX7_path_38 rfl ?_
          refine VM_ialdE 4 (g 4 sc) hB dX7_path_40 mar4 rfl (by first | omega | (simp [gup, aup]; omega)) (by show _ < (6 : Int); first | omega | (simp [gup, aup]; omega)) (by decide) rfl ?_
          refine V_istore dX7_path_41 (by decide) ?_
          refine V_goto 24 dX7_path_43 (by decide) ?_
          exact ih (g 4 sc) (many + 1) (by omega) (by omega) (by omega)
    refine V_aload_n dX7_path_0 rfl ?_
    refine V_iload_n dX7_path_1 rfl ?_
    refine VM_c1 (M' := mX7_isNode) okX7_isNode rfl dX7_path_2 q2872 rfl rfl (Nat.le_of_ble_eq_true rfl) (d' := 2) (b1 := 0) (by decide) (by decide) (c_X7_isNode hB hr_g (by first | omega | exact hr_g _ _ | decide) (by first | omega | (simp [gup, aup]; omega)) (fun c_2 => ?_) (fun c_2 => ?_))
    · refine V_if_eq 12 dX7_path_5 (by decide) (by first | omega | exact hr_g _ _ | decide) (fun c_5 => absurd c_5 (by decide)) (fun c_5 => ?_)
      refine V_iload_n dX7_path_8 rfl ?_
      refine V_if_ge 14 dX7_path_9 (by decide) (by first | omega | exact hr_g _ _ | decide) (fun c_9 => ?_) (fun c_9 => ?_)
      · refine V_iconst dX7_path_14 ?_
        refine V_istore_n dX7_path_15 (by decide) ?_
        refine V_aload_n dX7_path_16 rfl ?_
        refine V_iload_n dX7_path_17 rfl ?_
        refine V_iconst dX7_path_18 ?_
        refine VM_c2 (M' := mX7_of) okX7_of rfl dX7_path_19 q2860 rfl rfl (Nat.le_of_ble_eq_true rfl) (d' := 1) (b1 := 0) (by decide) (by decide) (c_X7_of hB (by first | omega | (simp [gup, aup]; omega)) (by first | omega | (simp [gup, aup]; omega)) ?_)
        refine V_top (g 0 (6 * n + 3)) (by exact rfl) ?_
        refine V_istore dX7_path_22 (by decide) ?_
        exact L24 16 _ 1 (by omega) (by omega) rfl
      · exfalso; omega
    · refine V_if_eq 12 dX7_path_5 (by decide) (by first | omega | exact hr_g _ _ | decide) (fun c_5 => ?_) (fun c_5 => absurd c_5 (by decide))
      exfalso; omega
  · rw [if_neg cc] at K
    refine V_aload_n dX7_path_0 rfl ?_
    refine V_iload_n dX7_path_1 rfl ?_
    refine VM_c1 (M' := mX7_isNode) okX7_isNode rfl dX7_path_2 q2872 rfl rfl (Nat.le_of_ble_eq_true rfl) (d' := 2) (b1 := 0) (by decide) (by decide) (c_X7_isNode hB hr_g (by first | omega | exact hr_g _ _ | decide) (by first | omega | (simp [gup, aup]; omega)) (fun c_2 => ?_) (fun c_2 => ?_))
    · refine V_if_eq 12 dX7_path_5 (by decide) (by first | omega | exact hr_g _ _ | decide) (fun c_5 => absurd c_5 (by decide)) (fun c_5 => ?_)
      refine V_iload_n dX7_path_8 rfl ?_
      refine V_if_ge 14 dX7_path_9 (by decide) (by first | omega | exact hr_g _ _ | decide) (fun c_9 => ?_) (fun c_9 => ?_)
      · exfalso; omega
      · refine V_iconst dX7_path_12 ?_
        exact V_iret dX7_path_13 rfl (by exact K)
    · refine V_if_eq 12 dX7_path_5 (by decide) (by first | omega | exact hr_g _ _ | decide) (fun c_5 => ?_) (fun c_5 => absurd c_5 (by decide))
      refine V_iconst dX7_path_12 ?_
      exact V_iret dX7_path_13 rfl (by exact K)
end M32
