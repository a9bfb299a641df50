/-! THE REFERENCE'S METHODS, part 19: what is done, and undone -/
/-- a wire is set, in the row of what goes on -/
def wSetB (s : Int → Int) : Int → Int := if s 1 = 1 ∧ s 2 ≤ s (11 + 33 * (s 3 - 1) + 2) then wBegins s else s
def wPut (s : Int → Int) (w v : Int) : Int → Int := let its := 11 + 33 * (s 3 - 1); let ch := its + 9 + 3 * s (its + 2); aup (aup (aup (aup s ch (s 0)) (ch + 1) w) (ch + 2) v) (its + 2) (s (its + 2) + 1)
def wSet (s : Int → Int) (w v : Int) : Int → Int := if s 1 = 1 then wPut (aup (wSetB s) (5 + w) v) w v else aup s (5 + w) v
theorem zShl_1 {b : Int} (h : 1 ≤ b ∧ b ≤ 8) : 2 ≤ zShl 1 b ∧ zShl 1 b ≤ 256 := by
  rcases (show b = 1 ∨ b = 2 ∨ b = 3 ∨ b = 4 ∨ b = 5 ∨ b = 6 ∨ b = 7 ∨ b = 8 by omega) with rfl | rfl | rfl | rfl | rfl | rfl | rfl | rfl <;> decide
def aSets (g : MG) (n v : Int) : Int := if ((0 ≤ n ∧ n < g 1 0) ∧ g 0 (6 * n + 0) = 0) ∧ (0 ≤ v ∧ v ≤ zShl 1 (g 0 (6 * n + 1)) - 1) then (if g 9 (5 + g 0 (6 * n + 5)) = v then -2 else g 9 1) else -1
def pSets (g : MG) (n v : Int) : MG := if (((0 ≤ n ∧ n < g 1 0) ∧ g 0 (6 * n + 0) = 0) ∧ (0 ≤ v ∧ v ≤ zShl 1 (g 0 (6 * n + 1)) - 1)) ∧ g 9 (5 + g 0 (6 * n + 5)) ≠ v then gset (pNoted g) 9 (wSet (g 9) (g 0 (6 * n + 5)) v) else g
def aPasses (g : MG) (n : Int) : Int := if 1 ≤ n ∧ n ≤ 99 then (if 999 < g 9 0 + n then -2 else g 9 0 + n) else -1
def pPasses (g : MG) (n : Int) : MG := if (1 ≤ n ∧ n ≤ 99) ∧ g 9 0 + n ≤ 999 then gset (pNoted g) 9 (aup (g 9) 0 (g 9 0 + n)) else g
def wDumps (s : Int → Int) (on : Int) : Int → Int := if on = 1 then wBegins (aup s 1 on) else aup (aup s 1 on) (11 + 33 * (s 3 - 1) + 1) (s 0)
def aDumps (g : MG) (on : Int) : Int := if 0 ≤ on ∧ on ≤ 1 then (if g 9 1 = on then -2 else wDumps (g 9) on 3) else -1
def pDumps (g : MG) (on : Int) : MG := if (0 ≤ on ∧ on ≤ 1) ∧ g 9 1 ≠ on then gset (pNoted g) 9 (wDumps (g 9) on) else g
def aSizes (g : MG) (n : Int) : Int := if 1 ≤ n ∧ n ≤ 8 then (if g 9 2 = n then -2 else g 9 2) else -1
def pSizes (g : MG) (n : Int) : MG := if (1 ≤ n ∧ n ≤ 8) ∧ g 9 2 ≠ n then gset (pNoted g) 9 (aup (g 9) 2 n) else g
theorem wBegins_r {s : Int → Int} (h : ∀ j, inr (s j)) (h3 : 0 ≤ s 3 ∧ s 3 ≤ 6) (h4 : inr (s 4 + 1)) : ∀ j, inr (wBegins s j) := by
  have key : ∀ f : Int → Int, (∀ j, inr (f j)) → inr (f 3 + 1) → ∀ j, inr (wNew f j) := by
    intro f hf h1 j
    unfold wNew
    repeat' split
    all_goals first | exact h1 | exact hf _ | decide
  unfold wBegins
  split
  · refine key _ (fun j => ?_) ?_
    · unfold wDrop
      repeat' split
      all_goals first | exact h4 | exact h _ | (constructor <;> omega)
    · have e : wDrop s 3 = s 3 - 1 := by unfold wDrop; rw [if_pos rfl]
      rw [e]; constructor <;> omega
  · exact key _ h (by constructor <;> omega)
theorem aup_r {s : Int → Int} (h : ∀ j, inr (s j)) {i v : Int} (hv : inr v) : ∀ j, inr (aup s i v j) := by
  intro j; unfold aup; split
  · exact hv
  · exact h j
theorem aup_eq {f : Int → Int} {i v : Int} : aup f i v i = v := by unfold aup; rw [if_pos rfl]
theorem aup_nn {f : Int → Int} {i j v : Int} (h : j ≠ i) : aup f i v j = f j := by unfold aup; rw [if_neg h]
theorem wNew_lo {s : Int → Int} {j : Int} (h : j < 3 ∨ 3 < j ∧ j < 11) (h3 : 0 ≤ s 3) : wNew s j = s j := by
  unfold wNew
  rw [if_neg (by omega), if_neg (by omega), if_neg (by omega), if_neg (by omega), if_neg (by omega)]
theorem wNew_3 {s : Int → Int} : wNew s 3 = s 3 + 1 := by unfold wNew; rw [if_pos rfl]
theorem wDrop_lo {s : Int → Int} {j : Int} (h : j < 3 ∨ 4 < j ∧ j < 11) : wDrop s j = s j := by
  unfold wDrop
  rw [if_neg (by omega), if_neg (by omega), if_neg (by omega)]
theorem wDrop_3 {s : Int → Int} : wDrop s 3 = s 3 - 1 := by unfold wDrop; rw [if_pos rfl]
theorem wDrop_4 {s : Int → Int} : wDrop s 4 = s 4 + 1 := by unfold wDrop; rw [if_neg (by omega), if_pos rfl]
theorem wB_lo {s : Int → Int} {j : Int} (h : j < 3 ∨ 4 < j ∧ j < 11) (h3 : 0 ≤ s 3) : wBegins s j = s j := by
  unfold wBegins
  split
  · rw [wNew_lo (by omega) (by rw [wDrop_3]; omega), wDrop_lo (by omega)]
  · exact wNew_lo (by omega) h3
theorem wB_3 {s : Int → Int} (h : 1 ≤ s 3 ∧ s 3 ≤ 6) : 1 ≤ wBegins s 3 ∧ wBegins s 3 ≤ 6 := by
  unfold wBegins
  split
  · rw [wNew_3, wDrop_3]; omega
  · rw [wNew_3]; omega
theorem wNew_m {s : Int → Int} (h3 : 0 ≤ s 3) : wNew s (11 + 33 * (wNew s 3 - 1) + 2) = 0 := by
  rw [wNew_3]
  unfold wNew
  rw [if_neg (by omega), if_neg (by omega), if_neg (by omega), if_pos (by omega)]
theorem wB_m {s : Int → Int} (h : 1 ≤ s 3 ∧ s 3 ≤ 6) : wBegins s (11 + 33 * (wBegins s 3 - 1) + 2) = 0 := by
  unfold wBegins
  split
  · exact wNew_m (by rw [wDrop_3]; omega)
  · exact wNew_m (by omega)
section M19
variable {E : Ev} {am : Nat} {B : Nat → Nat} {h0 h : AH} {g : MG} {Q : Value → AH → Prop} {X : Nat → AH → Prop}
theorem c_sets95 (hB : MB am B) {n w v : Int} {v4 v5 : Option Value} (hr_g : Rng g) (hw : 0 ≤ w ∧ w < 6) (hv : 0 ≤ v ∧ v ≤ 255) (h1 : g 9 1 = 0 ∨ g 9 1 = 1) (h3 : 1 ≤ g 9 3 ∧ g 9 3 ≤ 6) (hm : g 9 1 = 1 → 0 ≤ g 9 (11 + 33 * (g 9 3 - 1) + 2) ∧ g 9 (11 + 33 * (g 9 3 - 1) + 2) ≤ 7) (K : Q (vI (g 9 1)) (mkM am B h0 (gset g 9 (if g 9 1 = 1 then wPut (aup (g 9) (5 + w) v) w v else aup (g 9) (5 + w) v)))) : V E mX7_sets 4 0 95 [some (.ref am), some (vI n), some (vI v), some (vI w), v4, v5] [] (mkM am B h0 g) Q X := by
  have hvi : inr v := by constructor <;> omega
  have hwi : inr w := by constructor <;> omega
  by_cases c : g 9 1 = 1
  · have hm := hm c
    rw [if_pos c] at K
    have e : g = gset g 9 (g 9) := gset_self.symm
    have r1 : aup (g 9) (5 + w) v 1 = g 9 1 := aup_nn (by omega)
    have r3 : aup (g 9) (5 + w) v 3 = g 9 3 := aup_nn (by omega)
    have r0 : ∀ j, 11 ≤ j → aup (g 9) (5 + w) v j = g 9 j := fun j hj => aup_nn (by omega)
    have r2 := r0 (11 + 33 * (g 9 3 - 1) + 2) (by omega)
    have hrF := aup_r (i := 5 + w) (hr_g 9) hvi
    have e0 : gup g 9 (5 + w) v = gset g 9 (aup (g 9) (5 + w) v) := by conv => lhs; rw [e, gset_up]
    suffices L : V E mX7_sets 4 0 104 [some (.ref am), some (vI n), some (vI v), some (vI w), v4, v5] [] (mkM am B h0 (gset g 9 (aup (g 9) (5 + w) v))) Q X by
      refine V_aload_n dX7_sets_95 rfl ?_
      refine VM_geta 9 dX7_sets_96 q2615 (by decide) rfl ?_
      refine V_iconst dX7_sets_99 ?_
      refine V_iload_n dX7_sets_100 rfl ?_
      refine V_iadd dX7_sets_101 ?_
      refine V_iload_n dX7_sets_102 rfl ?_
      refine VM_iast 9 hB dX7_sets_103 mar9 rfl mfa9 (by first | omega | (simp [gup, aup]; omega)) (by show _ < (209 : Int); first | omega | (simp [gup, aup]; omega)) (by decide) ?_
      exact V_st e0 L
    have r1' := r1
    rw [← r1] at K
    unfold wPut at K
    dsimp only at K
    rw [← r3] at h3
    rw [← r2, ← r3] at hm
    rw [← r1] at c
    generalize aup (g 9) (5 + w) v = F at *
    have hrA : Rng (gset g 9 F) := hr_g.set hrF
    refine V_aload_n dX7_sets_104 rfl ?_
    refine VM_geta 9 dX7_sets_105 q2615 (by decide) rfl ?_
    refine V_iconst dX7_sets_108 ?_
    refine VM_ialdE 9 (F 1) hB dX7_sets_109 mar9 rfl (by first | omega | (simp [gup, aup]; omega)) (by show _ < (209 : Int); first | omega | (simp [gup, aup]; omega)) (by decide) rfl ?_
    refine V_iconst dX7_sets_110 ?_
    refine V_icmp_ne 192 dX7_sets_111 (by decide) (by first | omega | exact hr_g _ _ | decide) (by first | omega | exact hr_g _ _ | decide) (fun c_111 => by exfalso; omega) (fun c_111 => ?_)
    refine V_aload_n dX7_sets_114 rfl ?_
    refine VM_geta 9 dX7_sets_115 q2615 (by decide) rfl ?_
    refine V_iconst dX7_sets_118 ?_
    refine VM_ialdE 9 (F 3) hB dX7_sets_119 mar9 rfl (by first | omega | (simp [gup, aup]; omega)) (by show _ < (209 : Int); first | omega | (simp [gup, aup]; omega)) (by decide) rfl ?_
    refine V_iconst dX7_sets_120 ?_
    refine V_isub dX7_sets_121 ?_
    refine VS_c1 (M' := mX7_block0) okX7_block0 dX7_sets_122 q2603 rfl rfl (Nat.le_of_ble_eq_true rfl) (d' := 1) (b1 := 0) (by decide) (by decide) (c_X7_block0 ?_)
    refine V_istore dX7_sets_125 (by decide) ?_
    refine V_iload dX7_sets_127 rfl ?_
    refine V_bipush dX7_sets_129 (by decide) ?_
    refine V_iadd dX7_sets_131 ?_
    refine V_iconst dX7_sets_132 ?_
    refine V_aload_n dX7_sets_133 rfl ?_
    refine VM_geta 9 dX7_sets_134 q2615 (by decide) rfl ?_
    refine V_iload dX7_sets_137 rfl ?_
    refine V_iconst dX7_sets_139 ?_
    refine V_iadd dX7_sets_140 ?_
    refine VM_ialdE 9 (F ((11 + 33 * ((F 3) - 1)) + 2)) hB dX7_sets_141 mar9 rfl (by first | omega | (simp [gup, aup]; omega)) (by show _ < (209 : Int); first | omega | (simp [gup, aup]; omega)) (by decide) rfl ?_
    refine V_imul dX7_sets_142 ?_
    refine V_iadd dX7_sets_143 ?_
    refine V_istore dX7_sets_144 (by decide) ?_
    refine V_aload_n dX7_sets_146 rfl ?_
    refine VM_geta 9 dX7_sets_147 q2615 (by decide) rfl ?_
    refine V_iload dX7_sets_150 rfl ?_
    refine V_aload_n dX7_sets_152 rfl ?_
    refine VM_geta 9 dX7_sets_153 q2615 (by decide) rfl ?_
    refine V_iconst dX7_sets_156 ?_
    refine VM_ialdE 9 (F 0) hB dX7_sets_157 mar9 rfl (by first | omega | (simp [gup, aup]; omega)) (by show _ < (209 : Int); first | omega | (simp [gup, aup]; omega)) (by decide) rfl ?_
    refine VM_iast 9 hB dX7_sets_158 mar9 rfl mfa9 (by first | omega | (simp [gup, aup]; omega)) (by show _ < (209 : Int); first | omega | (simp [gup, aup]; omega)) (by decide) ?_
    refine V_aload_n dX7_sets_159 rfl ?_
    refine VM_geta 9 dX7_sets_160 q2615 (by decide) rfl ?_
    refine V_iload dX7_sets_163 rfl ?_
    refine V_iconst dX7_sets_165 ?_
    refine V_iadd dX7_sets_166 ?_
    refine V_iload_n dX7_sets_167 rfl ?_
    refine VM_iast 9 hB dX7_sets_168 mar9 rfl mfa9 (by first | omega | (simp [gup, aup]; omega)) (by show _ < (209 : Int); first | omega | (simp [gup, aup]; omega)) (by decide) ?_
    refine V_aload_n dX7_sets_169 rfl ?_
    refine VM_geta 9 dX7_sets_170 q2615 (by decide) rfl ?_
    refine V_iload dX7_sets_173 rfl ?_
    refine V_iconst dX7_sets_175 ?_
    refine V_iadd dX7_sets_176 ?_
    refine V_iload_n dX7_sets_177 rfl ?_
    refine VM_iast 9 hB dX7_sets_178 mar9 rfl mfa9 (by first | omega | (simp [gup, aup]; omega)) (by show _ < (209 : Int); first | omega | (simp [gup, aup]; omega)) (by decide) ?_
    refine V_aload_n dX7_sets_179 rfl ?_
    refine VM_geta 9 dX7_sets_180 q2615 (by decide) rfl ?_
    refine V_iload dX7_sets_183 rfl ?_
    refine V_iconst dX7_sets_185 ?_
    refine V_iadd dX7_sets_186 ?_
    refine V_dup2 dX7_sets_187 rfl rfl ?_
    refine VM_ialdE 9 ((gup (gup (gup (gset g 9 F) 9 (((11 + 33 * ((F 3) - 1)) + 9) + (3 * (F ((11 + 33 * ((F 3) - 1)) + 2)))) (F 0)) 9 ((((11 + 33 * ((F 3) - 1)) + 9) + (3 * (F ((11 + 33 * ((F 3) - 1)) + 2)))) + 1) w) 9 ((((11 + 33 * ((F 3) - 1)) + 9) + (3 * (F ((11 + 33 * ((F 3) - 1)) + 2)))) + 2) v) 9 ((11 + 33 * ((F 3) - 1)) + 2)) hB dX7_sets_188 mar9 rfl (by first | omega | (simp [gup, aup]; omega)) (by show _ < (209 : Int); first | omega | (simp [gup, aup]; omega)) (by decide) rfl ?_
    refine V_iconst dX7_sets_189 ?_
    refine V_iadd dX7_sets_190 ?_
    refine VM_iast 9 hB dX7_sets_191 mar9 rfl mfa9 (by first | omega | (simp [gup, aup]; omega)) (by show _ < (209 : Int); first | omega | (simp [gup, aup]; omega)) (by decide) ?_
    refine V_aload_n dX7_sets_192 rfl ?_
    refine VM_geta 9 dX7_sets_193 q2615 (by decide) rfl ?_
    refine V_iconst dX7_sets_196 ?_
    refine VM_ialdE 9 ((gup (gup (gup (gup (gset g 9 F) 9 (((11 + 33 * ((F 3) - 1)) + 9) + (3 * (F ((11 + 33 * ((F 3) - 1)) + 2)))) (F 0)) 9 ((((11 + 33 * ((F 3) - 1)) + 9) + (3 * (F ((11 + 33 * ((F 3) - 1)) + 2)))) + 1) w) 9 ((((11 + 33 * ((F 3) - 1)) + 9) + (3 * (F ((11 + 33 * ((F 3) - 1)) + 2)))) + 2) v) 9 ((11 + 33 * ((F 3) - 1)) + 2) (((gup (gup (gup (gset g 9 F) 9 (((11 + 33 * ((F 3) - 1)) + 9) + (3 * (F ((11 + 33 * ((F 3) - 1)) + 2)))) (F 0)) 9 ((((11 + 33 * ((F 3) - 1)) + 9) + (3 * (F ((11 + 33 * ((F 3) - 1)) + 2)))) + 1) w) 9 ((((11 + 33 * ((F 3) - 1)) + 9) + (3 * (F ((11 + 33 * ((F 3) - 1)) + 2)))) + 2) v) 9 ((11 + 33 * ((F 3) - 1)) + 2)) + 1)) 9 1) hB dX7_sets_197 mar9 rfl (by first | omega | (simp [gup, aup]; omega)) (by show _ < (209 : Int); first | omega | (simp [gup, aup]; omega)) (by decide) rfl ?_
    exact V_iret dX7_sets_198 rfl (by have e1 : aup (aup (aup F (11 + 33 * (F 3 - 1) + 9 + 3 * F (11 + 33 * (F 3 - 1) + 2)) (F 0)) (11 + 33 * (F 3 - 1) + 9 + 3 * F (11 + 33 * (F 3 - 1) + 2) + 1) w) (11 + 33 * (F 3 - 1) + 9 + 3 * F (11 + 33 * (F 3 - 1) + 2) + 2) v (11 + 33 * (F 3 - 1) + 2) = F (11 + 33 * (F 3 - 1) + 2) := (by rw [aup_nn (by omega), aup_nn (by omega), aup_nn (by omega)]); simp only [gset_up, gset_eq]; rw [e1, aup_nn (j := 1) (by omega), aup_nn (j := 1) (by omega), aup_nn (j := 1) (by omega), aup_nn (j := 1) (by omega)]; exact K)
  · rw [if_neg c] at K
    have e : g = gset g 9 (g 9) := gset_self.symm
    have e0 : gup g 9 (5 + w) v = gset g 9 (aup (g 9) (5 + w) v) := by conv => lhs; rw [e, gset_up]
    have r1 : aup (g 9) (5 + w) v 1 = g 9 1 := aup_nn (by omega)
    have hrF := aup_r (i := 5 + w) (hr_g 9) hvi
    suffices L : V E mX7_sets 4 0 104 [some (.ref am), some (vI n), some (vI v), some (vI w), v4, v5] [] (mkM am B h0 (gset g 9 (aup (g 9) (5 + w) v))) Q X by
      refine V_aload_n dX7_sets_95 rfl ?_
      refine VM_geta 9 dX7_sets_96 q2615 (by decide) rfl ?_
      refine V_iconst dX7_sets_99 ?_
      refine V_iload_n dX7_sets_100 rfl ?_
      refine V_iadd dX7_sets_101 ?_
      refine V_iload_n dX7_sets_102 rfl ?_
      refine VM_iast 9 hB dX7_sets_103 mar9 rfl mfa9 (by first | omega | (simp [gup, aup]; omega)) (by show _ < (209 : Int); first | omega | (simp [gup, aup]; omega)) (by decide) ?_
      exact V_st e0 L
    rw [← r1] at K c
    generalize aup (g 9) (5 + w) v = F at *
    have hrA : Rng (gset g 9 F) := hr_g.set hrF
    refine V_aload_n dX7_sets_104 rfl ?_
    refine VM_geta 9 dX7_sets_105 q2615 (by decide) rfl ?_
    refine V_iconst dX7_sets_108 ?_
    refine VM_ialdE 9 (F 1) hB dX7_sets_109 mar9 rfl (by first | omega | (simp [gup, aup]; omega)) (by show _ < (209 : Int); first | omega | (simp [gup, aup]; omega)) (by decide) rfl ?_
    refine V_iconst dX7_sets_110 ?_
    refine V_icmp_ne 192 dX7_sets_111 (by decide) (by first | omega | exact hr_g _ _ | decide) (by first | omega | exact hr_g _ _ | decide) (fun c_111 => ?_) (fun c_111 => by exfalso; omega)
    refine V_aload_n dX7_sets_192 rfl ?_
    refine VM_geta 9 dX7_sets_193 q2615 (by decide) rfl ?_
    refine V_iconst dX7_sets_196 ?_
    refine VM_ialdE 9 (F 1) hB dX7_sets_197 mar9 rfl (by first | omega | (simp [gup, aup]; omega)) (by show _ < (209 : Int); first | omega | (simp [gup, aup]; omega)) (by decide) rfl ?_
    exact V_iret dX7_sets_198 rfl (by exact K)
theorem c_X7_sets (hB : MB am B) (hr_g : Rng g) {n v : Int} (hn : inr n) (hv : inr v) (hb : BI g) {c : Int} (hw : WI c (g 9)) (hc : c ≤ 1000) (h11 : 0 ≤ g 11 0 ∧ g 11 0 ≤ 6) (K : Q (vI (aSets g n v)) (mkM am B h0 (pSets g n v))) : V E mX7_sets 4 0 0 [some (.ref am), some (vI n), some (vI v), none, none, none] [] (mkM am B h0 g) Q X := by
  have hb1 := hb.1
  obtain ⟨w0, w1, w2, w3, w4, w5, w6⟩ := hw
  have wl := w6 (g 9 3 - 1) (by omega) (by omega)
  have wl2 := wl.2.2.1
  unfold aSets pSets at K
  by_cases cw : (0 ≤ n ∧ n < g 1 0) ∧ g 0 (6 * n + 0) = 0
  · have hk := hb.2.2.2.1 n cw.1.1 cw.1.2
    have hk1 : (0 ≤ g 0 (6 * n + 5) ∧ g 0 (6 * n + 5) < 6) ∧ 1 ≤ g 0 (6 * n + 1) ∧ g 0 (6 * n + 1) ≤ 8 := by
      rcases hk.1 with a | a | a <;> omega
    have hz := zShl_1 hk1.2
    by_cases cv : 0 ≤ v ∧ v ≤ zShl 1 (g 0 (6 * n + 1)) - 1
    · rw [if_pos ⟨cw, cv⟩] at K
      by_cases ce : g 9 (5 + g 0 (6 * n + 5)) = v
      · rw [if_pos ce, if_neg (fun h => h.2 ce)] at K
        refine V_aload_n dX7_sets_0 rfl ?_
        refine V_iload_n dX7_sets_1 rfl ?_
        refine VM_c1 (M' := mX7_isWire) okX7_isWire rfl dX7_sets_2 q2903 rfl rfl (Nat.le_of_ble_eq_true rfl) (d' := 3) (b1 := 0) (by decide) (by decide) (c_X7_isWire hB hr_g (by first | omega | exact hr_g _ _ | decide) (by first | omega | (simp [gup, aup]; omega)) (fun c_2 => ?_) (fun c_2 => absurd cw c_2))
        refine V_if_eq 26 dX7_sets_5 (by decide) (by first | omega | exact hr_g _ _ | decide) (fun c_5 => absurd c_5 (by decide)) (fun c_5 => ?_)
        refine V_iload_n dX7_sets_8 rfl ?_
        refine V_iconst dX7_sets_9 ?_
        refine V_iconst dX7_sets_10 ?_
        refine V_aload_n dX7_sets_11 rfl ?_
        refine V_iload_n dX7_sets_12 rfl ?_
        refine V_iconst dX7_sets_13 ?_
        refine VM_c2 (M' := mX7_of) okX7_of rfl dX7_sets_14 q2860 rfl rfl (Nat.le_of_ble_eq_true rfl) (d' := 1) (b1 := 0) (by decide) (by decide) (c_X7_of hB (by first | omega | (simp [gup, aup]; omega)) (by first | omega | (simp [gup, aup]; omega)) ?_)
        refine V_top (g 0 (6 * n + 1)) (by exact rfl) ?_
        refine V_ishl dX7_sets_17 ?_
        refine V_iconst dX7_sets_18 ?_
        refine V_isub dX7_sets_19 ?_
        refine VS_c3 (M' := mX7_in) okX7_in dX7_sets_20 q2762 rfl rfl (Nat.le_of_ble_eq_true rfl) (d' := 1) (b1 := 0) (by decide) (by decide) (c_X7_in (by first | omega | exact hr_g _ _ | decide) (by first | omega | exact hr_g _ _ | decide) (by first | omega | exact hr_g _ _ | decide) (fun c_20 => ?_) (fun c_20 => absurd cv c_20))
        refine V_if_ne 28 dX7_sets_23 (by decide) (by first | omega | exact hr_g _ _ | decide) (fun c_23 => ?_) (fun c_23 => absurd c_23 (by decide))
        refine V_aload_n dX7_sets_28 rfl ?_
        refine V_iload_n dX7_sets_29 rfl ?_
        refine V_iconst dX7_sets_30 ?_
        refine VM_c2 (M' := mX7_of) okX7_of rfl dX7_sets_31 q2860 rfl rfl (Nat.le_of_ble_eq_true rfl) (d' := 1) (b1 := 0) (by decide) (by decide) (c_X7_of hB (by first | omega | (simp [gup, aup]; omega)) (by first | omega | (simp [gup, aup]; omega)) ?_)
        refine V_top (g 0 (6 * n + 5)) (by exact rfl) ?_
        refine V_istore_n dX7_sets_34 (by decide) ?_
        refine V_aload_n dX7_sets_35 rfl ?_
        refine VM_geta 9 dX7_sets_36 q2615 (by decide) rfl ?_
        refine V_iconst dX7_sets_39 ?_
        refine V_iload_n dX7_sets_40 rfl ?_
        refine V_iadd dX7_sets_41 ?_
        refine VM_ialdE 9 (g 9 (5 + (g 0 (6 * n + 5)))) hB dX7_sets_42 mar9 rfl (by first | omega | (simp [gup, aup]; omega)) (by show _ < (209 : Int); first | omega | (simp [gup, aup]; omega)) (by decide) rfl ?_
        refine V_iload_n dX7_sets_43 rfl ?_
        refine V_icmp_ne 50 dX7_sets_44 (by decide) (by first | omega | exact hr_g _ _ | decide) (by first | omega | exact hr_g _ _ | decide) (fun c_44 => by exfalso; omega) (fun c_44 => ?_)
        refine V_bipush dX7_sets_47 (by decide) ?_
        exact V_iret dX7_sets_49 rfl (by exact K)
      · rw [if_neg ce, if_pos ⟨⟨cw, cv⟩, ce⟩] at K
        have hrP := pNoted_r hr_g h11
        have e9 : pNoted g 9 = g 9 := pNoted_ne (by decide)
        suffices L : V E mX7_sets 4 0 54 [some (.ref am), some (vI n), some (vI v), some (vI (g 0 (6 * n + 5))), none, none] [] (mkM am B h0 (pNoted g)) Q X by
          refine V_aload_n dX7_sets_0 rfl ?_
          refine V_iload_n dX7_sets_1 rfl ?_
          refine VM_c1 (M' := mX7_isWire) okX7_isWire rfl dX7_sets_2 q2903 rfl rfl (Nat.le_of_ble_eq_true rfl) (d' := 3) (b1 := 0) (by decide) (by decide) (c_X7_isWire hB hr_g (by first | omega | exact hr_g _ _ | decide) (by first | omega | (simp [gup, aup]; omega)) (fun c_2 => ?_) (fun c_2 => absurd cw c_2))
          refine V_if_eq 26 dX7_sets_5 (by decide) (by first | omega | exact hr_g _ _ | decide) (fun c_5 => absurd c_5 (by decide)) (fun c_5 => ?_)
          refine V_iload_n dX7_sets_8 rfl ?_
          refine V_iconst dX7_sets_9 ?_
          refine V_iconst dX7_sets_10 ?_
          refine V_aload_n dX7_sets_11 rfl ?_
          refine V_iload_n dX7_sets_12 rfl ?_
          refine V_iconst dX7_sets_13 ?_
          refine VM_c2 (M' := mX7_of) okX7_of rfl dX7_sets_14 q2860 rfl rfl (Nat.le_of_ble_eq_true rfl) (d' := 1) (b1 := 0) (by decide) (by decide) (c_X7_of hB (by first | omega | (simp [gup, aup]; omega)) (by first | omega | (simp [gup, aup]; omega)) ?_)
          refine V_top (g 0 (6 * n + 1)) (by exact rfl) ?_
          refine V_ishl dX7_sets_17 ?_
          refine V_iconst dX7_sets_18 ?_
          refine V_isub dX7_sets_19 ?_
          refine VS_c3 (M' := mX7_in) okX7_in dX7_sets_20 q2762 rfl rfl (Nat.le_of_ble_eq_true rfl) (d' := 1) (b1 := 0) (by decide) (by decide) (c_X7_in (by first | omega | exact hr_g _ _ | decide) (by first | omega | exact hr_g _ _ | decide) (by first | omega | exact hr_g _ _ | decide) (fun c_20 => ?_) (fun c_20 => absurd cv c_20))
          refine V_if_ne 28 dX7_sets_23 (by decide) (by first | omega | exact hr_g _ _ | decide) (fun c_23 => ?_) (fun c_23 => absurd c_23 (by decide))
          refine V_aload_n dX7_sets_28 rfl ?_
          refine V_iload_n dX7_sets_29 rfl ?_
          refine V_iconst dX7_sets_30 ?_
          refine VM_c2 (M' := mX7_of) okX7_of rfl dX7_sets_31 q2860 rfl rfl (Nat.le_of_ble_eq_true rfl) (d' := 1) (b1 := 0) (by decide) (by decide) (c_X7_of hB (by first | omega | (simp [gup, aup]; omega)) (by first | omega | (simp [gup, aup]; omega)) ?_)
          refine V_top (g 0 (6 * n + 5)) (by exact rfl) ?_
          refine V_istore_n dX7_sets_34 (by decide) ?_
          refine V_aload_n dX7_sets_35 rfl ?_
          refine VM_geta 9 dX7_sets_36 q2615 (by decide) rfl ?_
          refine V_iconst dX7_sets_39 ?_
          refine V_iload_n dX7_sets_40 rfl ?_
          refine V_iadd dX7_sets_41 ?_
          refine VM_ialdE 9 (g 9 (5 + (g 0 (6 * n + 5)))) hB dX7_sets_42 mar9 rfl (by first | omega | (simp [gup, aup]; omega)) (by show _ < (209 : Int); first | omega | (simp [gup, aup]; omega)) (by decide) rfl ?_
          refine V_iload_n dX7_sets_43 rfl ?_
          refine V_icmp_ne 50 dX7_sets_44 (by decide) (by first | omega | exact hr_g _ _ | decide) (by first | omega | exact hr_g _ _ | decide) (fun c_44 => ?_) (fun c_44 => by exfalso; omega)
          refine V_aload_n dX7_sets_50 rfl ?_
          refine VM_v0 (M' := mX7_notes) okX7_notes rfl dX7_sets_51 q2907 rfl rfl (Nat.le_of_ble_eq_true rfl) (d' := 1) (b1 := 0) (by decide) (by decide) (c_X7_notes hB hr_g h11 ?_)
          exact L
        rw [← e9] at w0 w1 w2 w3 w4 wl2 K
        generalize hG : pNoted g = G at *
        have eG : ∀ f, gset (gset G 9 f) 9 = gset G 9 := fun f => by funext x; exact gset_gset
        unfold wSet wSetB at K
        by_cases cb : G 9 1 = 1 ∧ G 9 2 ≤ G 9 (11 + 33 * (G 9 3 - 1) + 2)
        · rw [if_pos cb] at K
          have b3 := wB_3 (s := G 9) w3
          have b1 : wBegins (G 9) 1 = G 9 1 := wB_lo (by omega) (by omega)
          have bm := wB_m (s := G 9) w3
          have hi4 : inr (G 9 4 + 1) := by constructor <;> omega
          have hrB := wBegins_r (hrP 9) (by omega) hi4
          have hrG := hrP.set (k := 9) hrB
          have L2 : V E mX7_sets 4 0 95 [some (.ref am), some (vI n), some (vI v), some (vI (g 0 (6 * n + 5))), none, none] [] (mkM am B h0 (gset G 9 (wBegins (G 9)))) Q X := by
            refine c_sets95 hB hrG hk1.1 (by omega) (by rw [gset_eq, b1]; exact w1) (by rw [gset_eq]; exact b3) (fun _ => by rw [gset_eq, bm]; omega) ?_
            rw [gset_gset, gset_eq, b1, if_pos cb.1]
            rw [if_pos cb.1] at K
            exact K
          refine V_aload_n dX7_sets_54 rfl ?_
          refine VM_geta 9 dX7_sets_55 q2615 (by decide) rfl ?_
          refine V_iconst dX7_sets_58 ?_
          refine VM_ialdE 9 (G 9 1) hB dX7_sets_59 mar9 rfl (by first | omega | (simp [gup, aup]; omega)) (by show _ < (209 : Int); first | omega | (simp [gup, aup]; omega)) (by decide) rfl ?_
          refine V_iconst dX7_sets_60 ?_
          refine V_icmp_ne 95 dX7_sets_61 (by decide) (by first | omega | exact hr_g _ _ | decide) (by first | omega | exact hr_g _ _ | decide) (fun c_61 => by exfalso; omega) (fun c_61 => ?_)
          refine V_aload_n dX7_sets_64 rfl ?_
          refine VM_geta 9 dX7_sets_65 q2615 (by decide) rfl ?_
          refine V_aload_n dX7_sets_68 rfl ?_
          refine VM_geta 9 dX7_sets_69 q2615 (by decide) rfl ?_
          refine V_iconst dX7_sets_72 ?_
          refine VM_ialdE 9 (G 9 3) hB dX7_sets_73 mar9 rfl (by first | omega | (simp [gup, aup]; omega)) (by show _ < (209 : Int); first | omega | (simp [gup, aup]; omega)) (by decide) rfl ?_
          refine V_iconst dX7_sets_74 ?_
          refine V_isub dX7_sets_75 ?_
          refine VS_c1 (M' := mX7_block0) okX7_block0 dX7_sets_76 q2603 rfl rfl (Nat.le_of_ble_eq_true rfl) (d' := 1) (b1 := 0) (by decide) (by decide) (c_X7_block0 ?_)
          refine V_iconst dX7_sets_79 ?_
          refine V_iadd dX7_sets_80 ?_
          refine VM_ialdE 9 (G 9 ((11 + 33 * ((G 9 3) - 1)) + 2)) hB dX7_sets_81 mar9 rfl (by first | omega | (simp [gup, aup]; omega)) (by show _ < (209 : Int); first | omega | (simp [gup, aup]; omega)) (by decide) rfl ?_
          refine V_aload_n dX7_sets_82 rfl ?_
          refine VM_geta 9 dX7_sets_83 q2615 (by decide) rfl ?_
          refine V_iconst dX7_sets_86 ?_
          refine VM_ialdE 9 (G 9 2) hB dX7_sets_87 mar9 rfl (by first | omega | (simp [gup, aup]; omega)) (by show _ < (209 : Int); first | omega | (simp [gup, aup]; omega)) (by decide) rfl ?_
          refine V_icmp_lt 95 dX7_sets_88 (by decide) (by first | omega | exact hr_g _ _ | decide) (by first | omega | exact hr_g _ _ | decide) (fun c_88 => by exfalso; omega) (fun c_88 => ?_)
          refine V_aload_n dX7_sets_91 rfl ?_
          refine VM_v0 (M' := mX7_blockBegins) okX7_blockBegins rfl dX7_sets_92 q2599 rfl rfl (Nat.le_of_ble_eq_true rfl) (d' := 2) (b1 := 0) (by decide) (by decide) (c_X7_blockBegins hB hrP (by omega) hi4 ?_)
          exact L2
        · rw [if_neg cb] at K
          suffices L : V E mX7_sets 4 0 95 [some (.ref am), some (vI n), some (vI v), some (vI (g 0 (6 * n + 5))), none, none] [] (mkM am B h0 G) Q X by
            refine V_aload_n dX7_sets_54 rfl ?_
            refine VM_geta 9 dX7_sets_55 q2615 (by decide) rfl ?_
            refine V_iconst dX7_sets_58 ?_
            refine VM_ialdE 9 (G 9 1) hB dX7_sets_59 mar9 rfl (by first | omega | (simp [gup, aup]; omega)) (by show _ < (209 : Int); first | omega | (simp [gup, aup]; omega)) (by decide) rfl ?_
            refine V_iconst dX7_sets_60 ?_
            refine V_icmp_ne 95 dX7_sets_61 (by decide) (by first | omega | exact hr_g _ _ | decide) (by first | omega | exact hr_g _ _ | decide) (fun c_61 => ?_) (fun c_61 => ?_)
            · exact L
            · refine V_aload_n dX7_sets_64 rfl ?_
              refine VM_geta 9 dX7_sets_65 q2615 (by decide) rfl ?_
              refine V_aload_n dX7_sets_68 rfl ?_
              refine VM_geta 9 dX7_sets_69 q2615 (by decide) rfl ?_
              refine V_iconst dX7_sets_72 ?_
              refine VM_ialdE 9 (G 9 3) hB dX7_sets_73 mar9 rfl (by first | omega | (simp [gup, aup]; omega)) (by show _ < (209 : Int); first | omega | (simp [gup, aup]; omega)) (by decide) rfl ?_
              refine V_iconst dX7_sets_74 ?_
              refine V_isub dX7_sets_75 ?_
              refine VS_c1 (M' := mX7_block0) okX7_block0 dX7_sets_76 q2603 rfl rfl (Nat.le_of_ble_eq_true rfl) (d' := 1) (b1 := 0) (by decide) (by decide) (c_X7_block0 ?_)
              refine V_iconst dX7_sets_79 ?_
              refine V_iadd dX7_sets_80 ?_
              refine VM_ialdE 9 (G 9 ((11 + 33 * ((G 9 3) - 1)) + 2)) hB dX7_sets_81 mar9 rfl (by first | omega | (simp [gup, aup]; omega)) (by show _ < (209 : Int); first | omega | (simp [gup, aup]; omega)) (by decide) rfl ?_
              refine V_aload_n dX7_sets_82 rfl ?_
              refine VM_geta 9 dX7_sets_83 q2615 (by decide) rfl ?_
              refine V_iconst dX7_sets_86 ?_
              refine VM_ialdE 9 (G 9 2) hB dX7_sets_87 mar9 rfl (by first | omega | (simp [gup, aup]; omega)) (by show _ < (209 : Int); first | omega | (simp [gup, aup]; omega)) (by decide) rfl ?_
              refine V_icmp_lt 95 dX7_sets_88 (by decide) (by first | omega | exact hr_g _ _ | decide) (by first | omega | exact hr_g _ _ | decide) (fun c_88 => ?_) (fun c_88 => ?_)
              · exact L
              · exact absurd ⟨by omega, by omega⟩ cb
          exact c_sets95 hB hrP hk1.1 (by omega) w1 w3 (fun h => by omega) K
    · rw [if_neg (fun h => cv h.2), if_neg (fun h => cv h.1.2)] at K
      refine V_aload_n dX7_sets_0 rfl ?_
      refine V_iload_n dX7_sets_1 rfl ?_
      refine VM_c1 (M' := mX7_isWire) okX7_isWire rfl dX7_sets_2 q2903 rfl rfl (Nat.le_of_ble_eq_true rfl) (d' := 3) (b1 := 0) (by decide) (by decide) (c_X7_isWire hB hr_g (by first | omega | exact hr_g _ _ | decide) (by first | omega | (simp [gup, aup]; omega)) (fun c_2 => ?_) (fun c_2 => absurd cw c_2))
      refine V_if_eq 26 dX7_sets_5 (by decide) (by first | omega | exact hr_g _ _ | decide) (fun c_5 => absurd c_5 (by decide)) (fun c_5 => ?_)
      refine V_iload_n dX7_sets_8 rfl ?_
      refine V_iconst dX7_sets_9 ?_
      refine V_iconst dX7_sets_10 ?_
      refine V_aload_n dX7_sets_11 rfl ?_
      refine V_iload_n dX7_sets_12 rfl ?_
      refine V_iconst dX7_sets_13 ?_
      refine VM_c2 (M' := mX7_of) okX7_of rfl dX7_sets_14 q2860 rfl rfl (Nat.le_of_ble_eq_true rfl) (d' := 1) (b1 := 0) (by decide) (by decide) (c_X7_of hB (by first | omega | (simp [gup, aup]; omega)) (by first | omega | (simp [gup, aup]; omega)) ?_)
      refine V_top (g 0 (6 * n + 1)) (by exact rfl) ?_
      refine V_ishl dX7_sets_17 ?_
      refine V_iconst dX7_sets_18 ?_
      refine V_isub dX7_sets_19 ?_
      refine VS_c3 (M' := mX7_in) okX7_in dX7_sets_20 q2762 rfl rfl (Nat.le_of_ble_eq_true rfl) (d' := 1) (b1 := 0) (by decide) (by decide) (c_X7_in (by first | omega | exact hr_g _ _ | decide) (by first | omega | exact hr_g _ _ | decide) (by first | omega | exact hr_g _ _ | decide) (fun c_20 => absurd c_20 cv) (fun c_20 => ?_))
      refine V_if_ne 28 dX7_sets_23 (by decide) (by first | omega | exact hr_g _ _ | decide) (fun c_23 => absurd c_23 (by decide)) (fun c_23 => ?_)
      refine V_iconst dX7_sets_26 ?_
      exact V_iret dX7_sets_27 rfl (by exact K)
  · rw [if_neg (fun h => cw h.1), if_neg (fun h => cw h.1.1)] at K
    refine V_aload_n dX7_sets_0 rfl ?_
    refine V_iload_n dX7_sets_1 rfl ?_
    refine VM_c1 (M' := mX7_isWire) okX7_isWire rfl dX7_sets_2 q2903 rfl rfl (Nat.le_of_ble_eq_true rfl) (d' := 3) (b1 := 0) (by decide) (by decide) (c_X7_isWire hB hr_g (by first | omega | exact hr_g _ _ | decide) (by first | omega | (simp [gup, aup]; omega)) (fun c_2 => absurd c_2 cw) (fun c_2 => ?_))
    refine V_if_eq 26 dX7_sets_5 (by decide) (by first | omega | exact hr_g _ _ | decide) (fun c_5 => ?_) (fun c_5 => absurd c_5 (by decide))
    refine V_iconst dX7_sets_26 ?_
    exact V_iret dX7_sets_27 rfl (by exact K)
theorem c_X7_passes_2 (hB : MB am B) (hr_g : Rng g) {n : Int} (hn : inr n) (ht : 0 ≤ g 9 0 ∧ g 9 0 ≤ 999) (h11 : 0 ≤ g 11 0 ∧ g 11 0 ≤ 6) (K : Q (vI (aPasses g n)) (mkM am B h0 (pPasses g n))) : V E mX7_passes_2 3 0 0 [some (.ref am), some (vI n)] [] (mkM am B h0 g) Q X := by
  unfold aPasses pPasses at K
  by_cases c1 : 1 ≤ n ∧ n ≤ 99
  · rw [if_pos c1] at K
    by_cases c2 : 999 < g 9 0 + n
    · rw [if_pos c2, if_neg (by omega)] at K
      refine V_iload_n dX7_passes_2_0 rfl ?_
      refine V_iconst dX7_passes_2_1 ?_
      refine V_bipush dX7_passes_2_2 (by decide) ?_
      refine VS_c3 (M' := mX7_in) okX7_in dX7_passes_2_4 q2762 rfl rfl (Nat.le_of_ble_eq_true rfl) (d' := 1) (b1 := 0) (by decide) (by decide) (c_X7_in (by first | omega | exact hr_g _ _ | decide) (by first | omega | exact hr_g _ _ | decide) (by first | omega | exact hr_g _ _ | decide) (fun c_20 => ?_) (fun c_20 => absurd c1 c_20))
      refine V_if_ne 12 dX7_passes_2_7 (by decide) (by first | omega | exact hr_g _ _ | decide) (fun c_7 => ?_) (fun c_7 => absurd c_7 (by decide))
      refine V_aload_n dX7_passes_2_12 rfl ?_
      refine VM_geta 9 dX7_passes_2_13 q2615 (by decide) rfl ?_
      refine V_iconst dX7_passes_2_16 ?_
      refine VM_ialdE 9 (g 9 0) hB dX7_passes_2_17 mar9 rfl (by first | omega | (simp [gup, aup]; omega)) (by show _ < (209 : Int); first | omega | (simp [gup, aup]; omega)) (by decide) rfl ?_
      refine V_iload_n dX7_passes_2_18 rfl ?_
      refine V_iadd dX7_passes_2_19 ?_
      refine V_sipush dX7_passes_2_20 (by decide) ?_
      refine V_icmp_le 29 dX7_passes_2_23 (by decide) (by first | omega | exact hr_g _ _ | decide) (by first | omega | exact hr_g _ _ | decide) (fun c_23 => by exfalso; omega) (fun c_23 => ?_)
      refine V_bipush dX7_passes_2_26 (by decide) ?_
      exact V_iret dX7_passes_2_28 rfl (by exact K)
    · rw [if_neg c2, if_pos (by omega)] at K
      have hrP := pNoted_r hr_g h11
      have e9 : pNoted g 9 = g 9 := pNoted_ne (by decide)
      suffices L : V E mX7_passes_2 3 0 33 [some (.ref am), some (vI n)] [] (mkM am B h0 (pNoted g)) Q X by
        refine V_iload_n dX7_passes_2_0 rfl ?_
        refine V_iconst dX7_passes_2_1 ?_
        refine V_bipush dX7_passes_2_2 (by decide) ?_
        refine VS_c3 (M' := mX7_in) okX7_in dX7_passes_2_4 q2762 rfl rfl (Nat.le_of_ble_eq_true rfl) (d' := 1) (b1 := 0) (by decide) (by decide) (c_X7_in (by first | omega | exact hr_g _ _ | decide) (by first | omega | exact hr_g _ _ | decide) (by first | omega | exact hr_g _ _ | decide) (fun c_20 => ?_) (fun c_20 => absurd c1 c_20))
        refine V_if_ne 12 dX7_passes_2_7 (by decide) (by first | omega | exact hr_g _ _ | decide) (fun c_7 => ?_) (fun c_7 => absurd c_7 (by decide))
        refine V_aload_n dX7_passes_2_12 rfl ?_
        refine VM_geta 9 dX7_passes_2_13 q2615 (by decide) rfl ?_
        refine V_iconst dX7_passes_2_16 ?_
        refine VM_ialdE 9 (g 9 0) hB dX7_passes_2_17 mar9 rfl (by first | omega | (simp [gup, aup]; omega)) (by show _ < (209 : Int); first | omega | (simp [gup, aup]; omega)) (by decide) rfl ?_
        refine V_iload_n dX7_passes_2_18 rfl ?_
        refine V_iadd dX7_passes_2_19 ?_
        refine V_sipush dX7_passes_2_20 (by decide) ?_
        refine V_icmp_le 29 dX7_passes_2_23 (by decide) (by first | omega | exact hr_g _ _ | decide) (by first | omega | exact hr_g _ _ | decide) (fun c_23 => ?_) (fun c_23 => by exfalso; omega)
        refine V_aload_n dX7_passes_2_29 rfl ?_
        refine VM_v0 (M' := mX7_notes) okX7_notes rfl dX7_passes_2_30 q2907 rfl rfl (Nat.le_of_ble_eq_true rfl) (d' := 1) (b1 := 0) (by decide) (by decide) (c_X7_notes hB hr_g h11 ?_)
        exact L
      rw [← e9] at K
      generalize pNoted g = G at *
      refine V_aload_n dX7_passes_2_33 rfl ?_
      refine VM_geta 9 dX7_passes_2_34 q2615 (by decide) rfl ?_
      refine V_iconst dX7_passes_2_37 ?_
      refine V_dup2 dX7_passes_2_38 rfl rfl ?_
      refine VM_ialdE 9 (G 9 0) hB dX7_passes_2_39 mar9 rfl (by first | omega | (simp [gup, aup]; omega)) (by show _ < (209 : Int); first | omega | (simp [gup, aup]; omega)) (by decide) rfl ?_
      refine V_iload_n dX7_passes_2_40 rfl ?_
      refine V_iadd dX7_passes_2_41 ?_
      refine VM_iast 9 hB dX7_passes_2_42 mar9 rfl mfa9 (by first | omega | (simp [gup, aup]; omega)) (by show _ < (209 : Int); first | omega | (simp [gup, aup]; omega)) (by decide) ?_
      refine V_aload_n dX7_passes_2_43 rfl ?_
      refine VM_geta 9 dX7_passes_2_44 q2615 (by decide) rfl ?_
      refine V_iconst dX7_passes_2_47 ?_
      refine VM_ialdE 9 ((G 9 0) + n) hB dX7_passes_2_48 mar9 rfl (by first | omega | (simp [gup, aup]; omega)) (by show _ < (209 : Int); first | omega | (simp [gup, aup]; omega)) (by decide) rfl ?_
      exact V_iret dX7_passes_2_49 rfl (by have e : gup G 9 0 (G 9 0 + n) = gset G 9 (aup (G 9) 0 (G 9 0 + n)) := (by conv => lhs; rw [← gset_self (g := G) (k := 9), gset_up, gset_eq]); rw [e]; exact K)
  · rw [if_neg c1, if_neg (fun h => c1 h.1)] at K
    refine V_iload_n dX7_passes_2_0 rfl ?_
    refine V_iconst dX7_passes_2_1 ?_
    refine V_bipush dX7_passes_2_2 (by decide) ?_
    refine VS_c3 (M' := mX7_in) okX7_in dX7_passes_2_4 q2762 rfl rfl (Nat.le_of_ble_eq_true rfl) (d' := 1) (b1 := 0) (by decide) (by decide) (c_X7_in (by first | omega | exact hr_g _ _ | decide) (by first | omega | exact hr_g _ _ | decide) (by first | omega | exact hr_g _ _ | decide) (fun c_20 => absurd c_20 c1) (fun c_20 => ?_))
    refine V_if_ne 12 dX7_passes_2_7 (by decide) (by first | omega | exact hr_g _ _ | decide) (fun c_7 => absurd c_7 (by decide)) (fun c_7 => ?_)
    refine V_iconst dX7_passes_2_10 ?_
    exact V_iret dX7_passes_2_11 rfl (by exact K)
theorem c_X7_sizes (hB : MB am B) (hr_g : Rng g) {n : Int} (hn : inr n) (h11 : 0 ≤ g 11 0 ∧ g 11 0 ≤ 6) (K : Q (vI (aSizes g n)) (mkM am B h0 (pSizes g n))) : V E mX7_sizes 3 0 0 [some (.ref am), some (vI n), none] [] (mkM am B h0 g) Q X := by
  unfold aSizes pSizes at K
  by_cases c1 : 1 ≤ n ∧ n ≤ 8
  · rw [if_pos c1] at K
    by_cases c2 : g 9 2 = n
    · rw [if_pos c2, if_neg (by omega)] at K
      refine V_iload_n dX7_sizes_0 rfl ?_
      refine V_iconst dX7_sizes_1 ?_
      refine V_bipush dX7_sizes_2 (by decide) ?_
      refine VS_c3 (M' := mX7_in) okX7_in dX7_sizes_4 q2762 rfl rfl (Nat.le_of_ble_eq_true rfl) (d' := 1) (b1 := 0) (by decide) (by decide) (c_X7_in (by first | omega | exact hr_g _ _ | decide) (by first | omega | exact hr_g _ _ | decide) (by first | omega | exact hr_g _ _ | decide) (fun c_20 => ?_) (fun c_20 => absurd c1 c_20))
      refine V_if_ne 12 dX7_sizes_7 (by decide) (by first | omega | exact hr_g _ _ | decide) (fun c_7 => ?_) (fun c_7 => absurd c_7 (by decide))
      refine V_aload_n dX7_sizes_12 rfl ?_
      refine VM_geta 9 dX7_sizes_13 q2615 (by decide) rfl ?_
      refine V_iconst dX7_sizes_16 ?_
      refine VM_ialdE 9 (g 9 2) hB dX7_sizes_17 mar9 rfl (by first | omega | (simp [gup, aup]; omega)) (by show _ < (209 : Int); first | omega | (simp [gup, aup]; omega)) (by decide) rfl ?_
      refine V_iload_n dX7_sizes_18 rfl ?_
      refine V_icmp_ne 25 dX7_sizes_19 (by decide) (by first | omega | exact hr_g _ _ | decide) (by first | omega | exact hr_g _ _ | decide) (fun c_19 => by exfalso; omega) (fun c_19 => ?_)
      refine V_bipush dX7_sizes_22 (by decide) ?_
      exact V_iret dX7_sizes_24 rfl (by exact K)
    · rw [if_neg c2, if_pos (by omega)] at K
      have hrP := pNoted_r hr_g h11
      have e9 : pNoted g 9 = g 9 := pNoted_ne (by decide)
      suffices L : V E mX7_sizes 3 0 29 [some (.ref am), some (vI n), none] [] (mkM am B h0 (pNoted g)) Q X by
        refine V_iload_n dX7_sizes_0 rfl ?_
        refine V_iconst dX7_sizes_1 ?_
        refine V_bipush dX7_sizes_2 (by decide) ?_
        refine VS_c3 (M' := mX7_in) okX7_in dX7_sizes_4 q2762 rfl rfl (Nat.le_of_ble_eq_true rfl) (d' := 1) (b1 := 0) (by decide) (by decide) (c_X7_in (by first | omega | exact hr_g _ _ | decide) (by first | omega | exact hr_g _ _ | decide) (by first | omega | exact hr_g _ _ | decide) (fun c_20 => ?_) (fun c_20 => absurd c1 c_20))
        refine V_if_ne 12 dX7_sizes_7 (by decide) (by first | omega | exact hr_g _ _ | decide) (fun c_7 => ?_) (fun c_7 => absurd c_7 (by decide))
        refine V_aload_n dX7_sizes_12 rfl ?_
        refine VM_geta 9 dX7_sizes_13 q2615 (by decide) rfl ?_
        refine V_iconst dX7_sizes_16 ?_
        refine VM_ialdE 9 (g 9 2) hB dX7_sizes_17 mar9 rfl (by first | omega | (simp [gup, aup]; omega)) (by show _ < (209 : Int); first | omega | (simp [gup, aup]; omega)) (by decide) rfl ?_
        refine V_iload_n dX7_sizes_18 rfl ?_
        refine V_icmp_ne 25 dX7_sizes_19 (by decide) (by first | omega | exact hr_g _ _ | decide) (by first | omega | exact hr_g _ _ | decide) (fun c_19 => ?_) (fun c_19 => by exfalso; omega)
        refine V_aload_n dX7_sizes_25 rfl ?_
        refine VM_v0 (M' := mX7_notes) okX7_notes rfl dX7_sizes_26 q2907 rfl rfl (Nat.le_of_ble_eq_true rfl) (d' := 1) (b1 := 0) (by decide) (by decide) (c_X7_notes hB hr_g h11 ?_)
        exact L
      rw [← e9] at K
      generalize pNoted g = G at *
      refine V_aload_n dX7_sizes_29 rfl ?_
      refine VM_geta 9 dX7_sizes_30 q2615 (by decide) rfl ?_
      refine V_iconst dX7_sizes_33 ?_
      refine VM_ialdE 9 (G 9 2) hB dX7_sizes_34 mar9 rfl (by first | omega | (simp [gup, aup]; omega)) (by show _ < (209 : Int); first | omega | (simp [gup, aup]; omega)) (by decide) rfl ?_
      refine V_istore_n dX7_sizes_35 (by decide) ?_
      refine V_aload_n dX7_sizes_36 rfl ?_
      refine VM_geta 9 dX7_sizes_37 q2615 (by decide) rfl ?_
      refine V_iconst dX7_sizes_40 ?_
      refine V_iload_n dX7_sizes_41 rfl ?_
      refine VM_iast 9 hB dX7_sizes_42 mar9 rfl mfa9 (by first | omega | (simp [gup, aup]; omega)) (by show _ < (209 : Int); first | omega | (simp [gup, aup]; omega)) (by decide) ?_
      refine V_iload_n dX7_sizes_43 rfl ?_
      exact V_iret dX7_sizes_44 rfl (by have e : gup G 9 2 n = gset G 9 (aup (G 9) 2 n) := (by conv => lhs; rw [← gset_self (g := G) (k := 9), gset_up]); rw [e]; exact K)
  · rw [if_neg c1, if_neg (fun h => c1 h.1)] at K
    refine V_iload_n dX7_sizes_0 rfl ?_
    refine V_iconst dX7_sizes_1 ?_
    refine V_bipush dX7_sizes_2 (by decide) ?_
    refine VS_c3 (M' := mX7_in) okX7_in dX7_sizes_4 q2762 rfl rfl (Nat.le_of_ble_eq_true rfl) (d' := 1) (b1 := 0) (by decide) (by decide) (c_X7_in (by first | omega | exact hr_g _ _ | decide) (by first | omega | exact hr_g _ _ | decide) (by first | omega | exact hr_g _ _ | decide) (fun c_20 => absurd c_20 c1) (fun c_20 => ?_))
    refine V_if_ne 12 dX7_sizes_7 (by decide) (by first | omega | exact hr_g _ _ | decide) (fun c_7 => absurd c_7 (by decide)) (fun c_7 => ?_)
    refine V_iconst dX7_sizes_10 ?_
    exact V_iret dX7_sizes_11 rfl (by exact K)
theorem c_X7_dumps (hB : MB am B) (hr_g : Rng g) {n : Int} (hn : inr n) {c : Int} (hw : WI c (g 9)) (hc : c ≤ 1000) (h11 : 0 ≤ g 11 0 ∧ g 11 0 ≤ 6) (K : Q (vI (aDumps g n)) (mkM am B h0 (pDumps g n))) : V E mX7_dumps 3 0 0 [some (.ref am), some (vI n)] [] (mkM am B h0 g) Q X := by
  obtain ⟨w0, w1, w2, w3, w4, w5, w6⟩ := hw
  unfold aDumps pDumps at K
  by_cases c1 : 0 ≤ n ∧ n ≤ 1
  · rw [if_pos c1] at K
    by_cases c2 : g 9 1 = n
    · rw [if_pos c2, if_neg (by omega)] at K
      refine V_iload_n dX7_dumps_0 rfl ?_
      refine V_iconst dX7_dumps_1 ?_
      refine V_iconst dX7_dumps_2 ?_
      refine VS_c3 (M' := mX7_in) okX7_in dX7_dumps_3 q2762 rfl rfl (Nat.le_of_ble_eq_true rfl) (d' := 1) (b1 := 0) (by decide) (by decide) (c_X7_in (by first | omega | exact hr_g _ _ | decide) (by first | omega | exact hr_g _ _ | decide) (by first | omega | exact hr_g _ _ | decide) (fun c_20 => ?_) (fun c_20 => absurd c1 c_20))
      refine V_if_ne 11 dX7_dumps_6 (by decide) (by first | omega | exact hr_g _ _ | decide) (fun c_6 => ?_) (fun c_6 => absurd c_6 (by decide))
      refine V_aload_n dX7_dumps_11 rfl ?_
      refine VM_geta 9 dX7_dumps_12 q2615 (by decide) rfl ?_
      refine V_iconst dX7_dumps_15 ?_
      refine VM_ialdE 9 (g 9 1) hB dX7_dumps_16 mar9 rfl (by first | omega | (simp [gup, aup]; omega)) (by show _ < (209 : Int); first | omega | (simp [gup, aup]; omega)) (by decide) rfl ?_
      refine V_iload_n dX7_dumps_17 rfl ?_
      refine V_icmp_ne 24 dX7_dumps_18 (by decide) (by first | omega | exact hr_g _ _ | decide) (by first | omega | exact hr_g _ _ | decide) (fun c_18 => by exfalso; omega) (fun c_18 => ?_)
      refine V_bipush dX7_dumps_21 (by decide) ?_
      exact V_iret dX7_dumps_23 rfl (by exact K)
    · rw [if_neg c2, if_pos (by omega)] at K
      have hrP := pNoted_r hr_g h11
      have e9 : pNoted g 9 = g 9 := pNoted_ne (by decide)
      suffices L : V E mX7_dumps 3 0 35 [some (.ref am), some (vI n)] [] (mkM am B h0 (gset (pNoted g) 9 (aup (g 9) 1 n))) Q X by
        refine V_iload_n dX7_dumps_0 rfl ?_
        refine V_iconst dX7_dumps_1 ?_
        refine V_iconst dX7_dumps_2 ?_
        refine VS_c3 (M' := mX7_in) okX7_in dX7_dumps_3 q2762 rfl rfl (Nat.le_of_ble_eq_true rfl) (d' := 1) (b1 := 0) (by decide) (by decide) (c_X7_in (by first | omega | exact hr_g _ _ | decide) (by first | omega | exact hr_g _ _ | decide) (by first | omega | exact hr_g _ _ | decide) (fun c_20 => ?_) (fun c_20 => absurd c1 c_20))
        refine V_if_ne 11 dX7_dumps_6 (by decide) (by first | omega | exact hr_g _ _ | decide) (fun c_6 => ?_) (fun c_6 => absurd c_6 (by decide))
        refine V_aload_n dX7_dumps_11 rfl ?_
        refine VM_geta 9 dX7_dumps_12 q2615 (by decide) rfl ?_
        refine V_iconst dX7_dumps_15 ?_
        refine VM_ialdE 9 (g 9 1) hB dX7_dumps_16 mar9 rfl (by first | omega | (simp [gup, aup]; omega)) (by show _ < (209 : Int); first | omega | (simp [gup, aup]; omega)) (by decide) rfl ?_
        refine V_iload_n dX7_dumps_17 rfl ?_
        refine V_icmp_ne 24 dX7_dumps_18 (by decide) (by first | omega | exact hr_g _ _ | decide) (by first | omega | exact hr_g _ _ | decide) (fun c_18 => ?_) (fun c_18 => by exfalso; omega)
        refine V_aload_n dX7_dumps_24 rfl ?_
        refine VM_v0 (M' := mX7_notes) okX7_notes rfl dX7_dumps_25 q2907 rfl rfl (Nat.le_of_ble_eq_true rfl) (d' := 1) (b1 := 0) (by decide) (by decide) (c_X7_notes hB hr_g h11 ?_)
        refine V_aload_n dX7_dumps_28 rfl ?_
        refine VM_geta 9 dX7_dumps_29 q2615 (by decide) rfl ?_
        refine V_iconst dX7_dumps_32 ?_
        refine V_iload_n dX7_dumps_33 rfl ?_
        refine VM_iast 9 hB dX7_dumps_34 mar9 rfl mfa9 (by first | omega | (simp [gup, aup]; omega)) (by show _ < (209 : Int); first | omega | (simp [gup, aup]; omega)) (by decide) ?_
        refine V_st ?_ L; rw [← e9]; conv => lhs; rw [← gset_self (g := pNoted g) (k := 9), gset_up]
      have eN : ∀ j, j ≠ 1 → aup (g 9) 1 n j = g 9 j := fun j hj => aup_nn hj
      have f0 := eN 0 (by omega)
      have f3 := eN 3 (by omega)
      have f4 := eN 4 (by omega)
      unfold wDumps at K
      rw [← f0, ← f3] at K
      rw [← f0] at w0
      rw [← f3] at w3
      rw [← f4] at w4
      have hrF := aup_r (i := 1) (hr_g 9) hn
      generalize aup (g 9) 1 n = F at *
      have hrA : Rng (gset (pNoted g) 9 F) := hrP.set hrF
      have hi4 : inr (F 4 + 1) := by constructor <;> omega
      generalize pNoted g = G at *
      by_cases cn : n = 1
      · rw [if_pos cn] at K
        refine V_iload_n dX7_dumps_35 rfl ?_
        refine V_iconst dX7_dumps_36 ?_
        refine V_icmp_ne 47 dX7_dumps_37 (by decide) (by first | omega | exact hr_g _ _ | decide) (by first | omega | exact hr_g _ _ | decide) (fun c_37 => by exfalso; omega) (fun c_37 => ?_)
        refine V_aload_n dX7_dumps_40 rfl ?_
        refine VM_v0 (M' := mX7_blockBegins) okX7_blockBegins rfl dX7_dumps_41 q2599 rfl rfl (Nat.le_of_ble_eq_true rfl) (d' := 2) (b1 := 0) (by decide) (by decide) (c_X7_blockBegins hB hrA (by show 0 ≤ F 3 ∧ F 3 ≤ 6; omega) hi4 ?_)
        refine V_goto 71 dX7_dumps_44 (by decide) ?_
        refine V_aload_n dX7_dumps_71 rfl ?_
        refine VM_geta 9 dX7_dumps_72 q2615 (by decide) rfl ?_
        refine V_iconst dX7_dumps_75 ?_
        refine VM_ialdE 9 (((gset (gset G 9 F) 9 (wBegins F))) 9 3) hB dX7_dumps_76 mar9 rfl (by first | omega | (simp [gup, aup]; omega)) (by show _ < (209 : Int); first | omega | (simp [gup, aup]; omega)) (by decide) rfl ?_
        exact V_iret dX7_dumps_77 rfl (by simp only [gset_gset, gset_eq]; exact K)
      · rw [if_neg cn] at K
        refine V_iload_n dX7_dumps_35 rfl ?_
        refine V_iconst dX7_dumps_36 ?_
        refine V_icmp_ne 47 dX7_dumps_37 (by decide) (by first | omega | exact hr_g _ _ | decide) (by first | omega | exact hr_g _ _ | decide) (fun c_37 => ?_) (fun c_37 => by exfalso; omega)
        refine V_aload_n dX7_dumps_47 rfl ?_
        refine VM_geta 9 dX7_dumps_48 q2615 (by decide) rfl ?_
        refine V_aload_n dX7_dumps_51 rfl ?_
        refine VM_geta 9 dX7_dumps_52 q2615 (by decide) rfl ?_
        refine V_iconst dX7_dumps_55 ?_
        refine VM_ialdE 9 (F 3) hB dX7_dumps_56 mar9 rfl (by first | omega | (simp [gup, aup]; omega)) (by show _ < (209 : Int); first | omega | (simp [gup, aup]; omega)) (by decide) rfl ?_
        refine V_iconst dX7_dumps_57 ?_
        refine V_isub dX7_dumps_58 ?_
        refine VS_c1 (M' := mX7_block0) okX7_block0 dX7_dumps_59 q2603 rfl rfl (Nat.le_of_ble_eq_true rfl) (d' := 1) (b1 := 0) (by decide) (by decide) (c_X7_block0 ?_)
        refine V_iconst dX7_dumps_62 ?_
        refine V_iadd dX7_dumps_63 ?_
        refine V_aload_n dX7_dumps_64 rfl ?_
        refine VM_geta 9 dX7_dumps_65 q2615 (by decide) rfl ?_
        refine V_iconst dX7_dumps_68 ?_
        refine VM_ialdE 9 (F 0) hB dX7_dumps_69 mar9 rfl (by first | omega | (simp [gup, aup]; omega)) (by show _ < (209 : Int); first | omega | (simp [gup, aup]; omega)) (by decide) rfl ?_
        refine VM_iast 9 hB dX7_dumps_70 mar9 rfl mfa9 (by first | omega | (simp [gup, aup]; omega)) (by show _ < (209 : Int); first | omega | (simp [gup, aup]; omega)) (by decide) ?_
        refine V_aload_n dX7_dumps_71 rfl ?_
        refine VM_geta 9 dX7_dumps_72 q2615 (by decide) rfl ?_
        refine V_iconst dX7_dumps_75 ?_
        refine VM_ialdE 9 ((gup (gset G 9 F) 9 ((11 + 33 * ((F 3) - 1)) + 1) (F 0)) 9 3) hB dX7_dumps_76 mar9 rfl (by first | omega | (simp [gup, aup]; omega)) (by show _ < (209 : Int); first | omega | (simp [gup, aup]; omega)) (by decide) rfl ?_
        exact V_iret dX7_dumps_77 rfl (by simp only [gset_up, gset_eq]; rw [show aup F (11 + 33 * (F 3 - 1) + 1) (F 0) 3 = F 3 from aup_nn (by omega)] at K ⊢; exact K)
  · rw [if_neg c1, if_neg (fun h => c1 h.1)] at K
    refine V_iload_n dX7_dumps_0 rfl ?_
    refine V_iconst dX7_dumps_1 ?_
    refine V_iconst dX7_dumps_2 ?_
    refine VS_c3 (M' := mX7_in) okX7_in dX7_dumps_3 q2762 rfl rfl (Nat.le_of_ble_eq_true rfl) (d' := 1) (b1 := 0) (by decide) (by decide) (c_X7_in (by first | omega | exact hr_g _ _ | decide) (by first | omega | exact hr_g _ _ | decide) (by first | omega | exact hr_g _ _ | decide) (fun c_20 => absurd c_20 c1) (fun c_20 => ?_))
    refine V_if_ne 11 dX7_dumps_6 (by decide) (by first | omega | exact hr_g _ _ | decide) (fun c_6 => absurd c_6 (by decide)) (fun c_6 => ?_)
    refine V_iconst dX7_dumps_9 ?_
    exact V_iret dX7_dumps_10 rfl (by exact K)
end M19
