/-! THE REFERENCE'S METHODS, part 24: ticks, delays -/
theorem zAnd_i (x y : Int) : inr (zAnd x y) := inr_toInt _
theorem zShl_12 {b : Int} (h : 0 ≤ b ∧ b ≤ 12) : 1 ≤ zShl 1 b ∧ zShl 1 b ≤ 4096 := by
  rcases (show b = 0 ∨ b = 1 ∨ b = 2 ∨ b = 3 ∨ b = 4 ∨ b = 5 ∨ b = 6 ∨ b = 7 ∨ b = 8 ∨ b = 9 ∨ b = 10 ∨ b = 11 ∨ b = 12 by omega) with rfl | rfl | rfl | rfl | rfl | rfl | rfl | rfl | rfl | rfl | rfl | rfl | rfl <;> decide
/-- of two rows: what ticks -/
def tkP (A N : Int → Int) (set j : Int) : Prop := zAnd (zShr set j) 1 = 1 ∧ A j ≠ -7 ∧ N j ≠ -7 ∧ A j ≠ N j
def tickP (g : MG) (set t : Int) : Prop := 1 ≤ t ∧ ∃ j, 0 ≤ j ∧ j < g 1 0 ∧ tkP (nAt g (t - 1)) (nAt g t) set j
noncomputable def tkN (p : Int → Prop) (k : Int) : Nat → Int → Int → Int
  | 0, _, many => if k < 0 then many else -9
  | m + 1, t, many => pIf (p t) (if many = k then t else tkN p k m (t + 1) (many + 1)) (tkN p k m (t + 1) many)
noncomputable def aTicks (g : MG) (set k : Int) : Int := if (0 ≤ set ∧ set ≤ zShl 1 (g 1 0) - 1) ∧ -1 ≤ k then tkN (tickP g set) k (g 9 0 + 1).toNat 0 0 else -1
section M24
variable {E : Ev} {am : Nat} {B : Nat → Nat} {h0 h : AH} {g : MG} {Q : Value → AH → Prop} {X : Nat → AH → Prop}
theorem c_X7_isTick (hB : MB am B) (hr_g : Rng g) {set : Int} (h1g : 0 ≤ g 1 0 ∧ g 1 0 ≤ 12) (Kt : (∃ j, 0 ≤ j ∧ j < g 1 0 ∧ tkP (g 41) (g 36) set j) → Q (vI 1) (mkM am B h0 g)) (Kf : (¬ ∃ j, 0 ≤ j ∧ j < g 1 0 ∧ tkP (g 41) (g 36) set j) → Q (vI 0) (mkM am B h0 g)) : V E mX7_isTick 1 0 0 [some (.ref am), some (vI set), none, none] [] (mkM am B h0 g) Q X := by
  have L : ∀ z : Int, (z = 0 ∨ z = 1) → (z = 1 ↔ ∃ j, 0 ≤ j ∧ j < 0 ∧ tkP (g 41) (g 36) set j) → V E mX7_isTick 1 0 4 [some (.ref am), some (vI set), some (vI z), some (vI 0)] [] (mkM am B h0 g) Q X := by
    refine loop_upI (P := fun i => ∀ z : Int, (z = 0 ∨ z = 1) → (z = 1 ↔ ∃ j, 0 ≤ j ∧ j < i ∧ tkP (g 41) (g 36) set j) → V E mX7_isTick 1 0 4 [some (.ref am), some (vI set), some (vI z), some (vI i)] [] (mkM am B h0 g) Q X) 0 (g 1 0) (fun i h1 h2 ih => ?_) h1g.1
    intro z hz hzi
    by_cases hi : i = g 1 0
    · subst hi
      refine V_iload_n dX7_isTick_4 rfl ?_
      refine V_aload_n dX7_isTick_5 rfl ?_
      refine VM_getiE 1 (g 1 0) dX7_isTick_6 q2607 (by decide) rfl rfl ?_
      refine V_icmp_ge 74 dX7_isTick_9 (by decide) (by first | omega | exact hr_g _ _ | decide | exact zAnd_i _ _) (by first | omega | exact hr_g _ _ | decide | exact zAnd_i _ _) (fun c_9 => ?_) (fun c_9 => by exfalso; omega)
      refine V_iload_n dX7_isTick_74 rfl ?_
      exact V_zret dX7_isTick_75 rfl (by first | decide | omega) (by rcases hz with rfl | rfl; exact Kf (fun q => absurd (hzi.2 q) (by decide)); exact Kt (hzi.1 rfl))
    · have ih := ih (by omega)
      have y1 : ∀ w : Int, (w = 1 ↔ (z = 1 ∨ tkP (g 41) (g 36) set i)) → (w = 1 ↔ ∃ j, 0 ≤ j ∧ j < i + 1 ∧ tkP (g 41) (g 36) set j) := by
        intro w hw
        rw [hw, hzi]
        constructor
        · rintro (⟨j, j1, j2, j3⟩ | q)
          · exact ⟨j, j1, by omega, j3⟩
          · exact ⟨i, h1, by omega, q⟩
        · rintro ⟨j, j1, j2, j3⟩
          by_cases c : j = i
          · subst c; exact Or.inr j3
          · exact Or.inl ⟨j, j1, by omega, j3⟩
      refine V_iload_n dX7_isTick_4 rfl ?_
      refine V_aload_n dX7_isTick_5 rfl ?_
      refine VM_getiE 1 (g 1 0) dX7_isTick_6 q2607 (by decide) rfl rfl ?_
      refine V_icmp_ge 74 dX7_isTick_9 (by decide) (by first | omega | exact hr_g _ _ | decide | exact zAnd_i _ _) (by first | omega | exact hr_g _ _ | decide | exact zAnd_i _ _) (fun c_9 => by exfalso; omega) (fun c_9 => ?_)
      refine V_iload_n dX7_isTick_12 rfl ?_
      refine V_if_ne 62 dX7_isTick_13 (by decide) (by first | omega | exact hr_g _ _ | decide | exact zAnd_i _ _) (fun c_13 => ?_) (fun c_13 => ?_)
      · refine V_iconst dX7_isTick_62 ?_; refine V_goto 67 dX7_isTick_63 (by decide) ?_; refine V_istore_n dX7_isTick_67 (by decide) ?_; refine V_iinc dX7_isTick_68 rfl (by decide) ?_; refine V_goto 4 dX7_isTick_71 (by decide) ?_; refine ih 1 (Or.inr rfl) (y1 1 ?_); refine ⟨fun _ => ?_, fun _ => rfl⟩; first | exact Or.inl (by omega) | exact Or.inr ⟨by omega, by omega, by omega, by omega⟩
      · refine V_iload_n dX7_isTick_16 rfl ?_
        refine V_iload_n dX7_isTick_17 rfl ?_
        refine V_ishr dX7_isTick_18 ?_
        refine V_iconst dX7_isTick_19 ?_
        refine V_iand dX7_isTick_20 ?_
        refine V_iconst dX7_isTick_21 ?_
        refine V_icmp_ne 66 dX7_isTick_22 (by decide) (by first | omega | exact hr_g _ _ | decide | exact zAnd_i _ _) (by first | omega | exact hr_g _ _ | decide | exact zAnd_i _ _) (fun c_22 => ?_) (fun c_22 => ?_)
        · refine V_iconst dX7_isTick_66 ?_; refine V_istore_n dX7_isTick_67 (by decide) ?_; refine V_iinc dX7_isTick_68 rfl (by decide) ?_; refine V_goto 4 dX7_isTick_71 (by decide) ?_; refine ih 0 (Or.inl rfl) (y1 0 ?_); refine ⟨fun q => absurd q (by decide), fun q => ?_⟩; exfalso; rcases q with q | ⟨q1, q2, q3, q4⟩ <;> omega
        · refine V_aload_n dX7_isTick_25 rfl ?_
          refine VM_geta 41 dX7_isTick_26 q2647 (by decide) rfl ?_
          refine V_iload_n dX7_isTick_29 rfl ?_
          refine VM_ialdE 41 (g 41 i) hB dX7_isTick_30 mar41 rfl (by first | omega | (simp [gup, aup]; omega)) (by show _ < (12 : Int); first | omega | (simp [gup, aup]; omega)) (by decide) rfl ?_
          refine V_bipush dX7_isTick_31 (by decide) ?_
          refine V_icmp_eq 66 dX7_isTick_33 (by decide) (by first | omega | exact hr_g _ _ | decide | exact zAnd_i _ _) (by first | omega | exact hr_g _ _ | decide | exact zAnd_i _ _) (fun c_33 => ?_) (fun c_33 => ?_)
          · refine V_iconst dX7_isTick_66 ?_; refine V_istore_n dX7_isTick_67 (by decide) ?_; refine V_iinc dX7_isTick_68 rfl (by decide) ?_; refine V_goto 4 dX7_isTick_71 (by decide) ?_; refine ih 0 (Or.inl rfl) (y1 0 ?_); refine ⟨fun q => absurd q (by decide), fun q => ?_⟩; exfalso; rcases q with q | ⟨q1, q2, q3, q4⟩ <;> omega
          · refine V_aload_n dX7_isTick_36 rfl ?_
            refine VM_geta 36 dX7_isTick_37 q2642 (by decide) rfl ?_
            refine V_iload_n dX7_isTick_40 rfl ?_
            refine VM_ialdE 36 (g 36 i) hB dX7_isTick_41 mar36 rfl (by first | omega | (simp [gup, aup]; omega)) (by show _ < (12 : Int); first | omega | (simp [gup, aup]; omega)) (by decide) rfl ?_
            refine V_bipush dX7_isTick_42 (by decide) ?_
            refine V_icmp_eq 66 dX7_isTick_44 (by decide) (by first | omega | exact hr_g _ _ | decide | exact zAnd_i _ _) (by first | omega | exact hr_g _ _ | decide | exact zAnd_i _ _) (fun c_44 => ?_) (fun c_44 => ?_)
            · refine V_iconst dX7_isTick_66 ?_; refine V_istore_n dX7_isTick_67 (by decide) ?_; refine V_iinc dX7_isTick_68 rfl (by decide) ?_; refine V_goto 4 dX7_isTick_71 (by decide) ?_; refine ih 0 (Or.inl rfl) (y1 0 ?_); refine ⟨fun q => absurd q (by decide), fun q => ?_⟩; exfalso; rcases q with q | ⟨q1, q2, q3, q4⟩ <;> omega
            · refine V_aload_n dX7_isTick_47 rfl ?_
              refine VM_geta 41 dX7_isTick_48 q2647 (by decide) rfl ?_
              refine V_iload_n dX7_isTick_51 rfl ?_
              refine VM_ialdE 41 (g 41 i) hB dX7_isTick_52 mar41 rfl (by first | omega | (simp [gup, aup]; omega)) (by show _ < (12 : Int); first | omega | (simp [gup, aup]; omega)) (by decide) rfl ?_
              refine V_aload_n dX7_isTick_53 rfl ?_
              refine VM_geta 36 dX7_isTick_54 q2642 (by decide) rfl ?_
              refine V_iload_n dX7_isTick_57 rfl ?_
              refine VM_ialdE 36 (g 36 i) hB dX7_isTick_58 mar36 rfl (by first | omega | (simp [gup, aup]; omega)) (by show _ < (12 : Int); first | omega | (simp [gup, aup]; omega)) (by decide) rfl ?_
              refine V_icmp_eq 66 dX7_isTick_59 (by decide) (by first | omega | exact hr_g _ _ | decide | exact zAnd_i _ _) (by first | omega | exact hr_g _ _ | decide | exact zAnd_i _ _) (fun c_59 => ?_) (fun c_59 => ?_)
              · refine V_iconst dX7_isTick_66 ?_; refine V_istore_n dX7_isTick_67 (by decide) ?_; refine V_iinc dX7_isTick_68 rfl (by decide) ?_; refine V_goto 4 dX7_isTick_71 (by decide) ?_; refine ih 0 (Or.inl rfl) (y1 0 ?_); refine ⟨fun q => absurd q (by decide), fun q => ?_⟩; exfalso; rcases q with q | ⟨q1, q2, q3, q4⟩ <;> omega
              · refine V_iconst dX7_isTick_62 ?_; refine V_goto 67 dX7_isTick_63 (by decide) ?_; refine V_istore_n dX7_isTick_67 (by decide) ?_; refine V_iinc dX7_isTick_68 rfl (by decide) ?_; refine V_goto 4 dX7_isTick_71 (by decide) ?_; refine ih 1 (Or.inr rfl) (y1 1 ?_); refine ⟨fun _ => ?_, fun _ => rfl⟩; first | exact Or.inl (by omega) | exact Or.inr ⟨by omega, by omega, by omega, by omega⟩
  refine V_iconst dX7_isTick_0 ?_
  refine V_istore_n dX7_isTick_1 (by decide) ?_
  refine V_iconst dX7_isTick_2 ?_
  refine V_istore_n dX7_isTick_3 (by decide) ?_
  exact L 0 (Or.inl rfl) ⟨fun q => absurd q (by decide), fun ⟨j, j1, j2, _⟩ => by omega⟩
end M24
