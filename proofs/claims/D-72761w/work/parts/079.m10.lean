/-! THE REFERENCE'S METHODS, part 10: blocks begin; all is as at first -/
/-- a new block behind the others -/
def wNew (w : Int → Int) : Int → Int := fun j => if j = 3 then w 3 + 1 else if j = 11 + 33 * w 3 then w 0 else if j = 11 + 33 * w 3 + 1 then -9 else if j = 11 + 33 * w 3 + 2 then 0 else if 11 + 33 * w 3 + 3 ≤ j ∧ j < 11 + 33 * w 3 + 9 then w (j - (11 + 33 * w 3 + 3) + 5) else w j
/-- the first block is dropped -/
def wDrop (w : Int → Int) : Int → Int := fun j => if j = 3 then w 3 - 1 else if j = 4 then w 4 + 1 else if 11 ≤ j ∧ j < 176 then w (j + 33) else w j
def wBegins (w : Int → Int) : Int → Int := if w 3 = 6 then wNew (wDrop w) else wNew w
theorem acp_lo {a b : Int → Int} {lo i m j : Int} (h : j < lo ∨ i ≤ j) : acp a b lo i m j = a j := by unfold acp; rw [if_neg (by omega)]
theorem gset_gset {g : MG} {k : Nat} {f f' : Int → Int} : gset (gset g k f) k f' = gset g k f' := by
  funext j
  unfold gset
  by_cases h1 : j = k <;> simp [h1]
section M10
variable {E : Ev} {am : Nat} {B : Nat → Nat} {h0 h : AH} {g : MG} {Q : Value → AH → Prop} {X : Nat → AH → Prop}
theorem c_bb105 (hB : MB am B) {f : Int → Int} {b : Int} (hf : ∀ j, inr (f j)) (hb : 11 ≤ b ∧ b ≤ 176) (K : V E mX7_blockBegins 2 0 135 [some (.ref am), some (vI b), some (vI 6)] [] (mkM am B h0 (gset g 9 (acp f f (b + 3) (b + 3 + 6) (2 - b)))) Q X) : V E mX7_blockBegins 2 0 105 [some (.ref am), some (vI b), some (vI 0)] [] (mkM am B h0 (gset g 9 f)) Q X := by
  have L : V E mX7_blockBegins 2 0 105 [some (.ref am), some (vI b), some (vI 0)] [] (mkM am B h0 (gset g 9 (acp f f (b + 3) (b + 3 + 0) (2 - b)))) Q X := by
    refine loop_upI (P := fun i => V E mX7_blockBegins 2 0 105 [some (.ref am), some (vI b), some (vI i)] [] (mkM am B h0 (gset g 9 (acp f f (b + 3) (b + 3 + i) (2 - b)))) Q X) 0 6 (fun i h1 h2 ih => ?_) (by omega)
    have e : gup (gset g 9 (acp f f (b + 3) (b + 3 + i) (2 - b))) 9 (b + 3 + i) (gset g 9 (acp f f (b + 3) (b + 3 + i) (2 - b)) 9 (5 + i)) = gset g 9 (acp f f (b + 3) (b + 3 + (i + 1)) (2 - b)) := by
      rw [gset_up, gset_eq, acp_lo (by omega)]
      have a1 := acp_s (a := f) (b := f) (lo := b + 3) (i := b + 3 + i) (m := 2 - b) (by omega)
      rw [show b + 3 + i + (2 - b) = 5 + i by omega] at a1
      rw [a1, show b + 3 + i + 1 = b + 3 + (i + 1) by omega]
    refine V_iload_n dX7_blockBegins_105 rfl ?_
    refine V_bipush dX7_blockBegins_106 (by decide) ?_
    refine V_icmp_ge 135 dX7_blockBegins_108 (by decide) (by first | omega | exact hr_g _ _ | decide) (by first | omega | exact hr_g _ _ | decide) (fun c_108 => ?_) (fun c_108 => ?_)
    · have e6 : i = 6 := (by omega); subst e6; exact K
    · refine V_aload_n dX7_blockBegins_111 rfl ?_
      refine VM_geta 9 dX7_blockBegins_112 q2615 (by decide) rfl ?_
      refine V_iload_n dX7_blockBegins_115 rfl ?_
      refine V_iconst dX7_blockBegins_116 ?_
      refine V_iadd dX7_blockBegins_117 ?_
      refine V_iload_n dX7_blockBegins_118 rfl ?_
      refine V_iadd dX7_blockBegins_119 ?_
      refine V_aload_n dX7_blockBegins_120 rfl ?_
      refine VM_geta 9 dX7_blockBegins_121 q2615 (by decide) rfl ?_
      refine V_iconst dX7_blockBegins_124 ?_
      refine V_iload_n dX7_blockBegins_125 rfl ?_
      refine V_iadd dX7_blockBegins_126 ?_
      refine VM_ialdE 9 (((gset g 9 (acp f f (b + 3) (b + 3 + i) (2 - b)))) 9 (5 + i)) hB dX7_blockBegins_127 mar9 rfl (by first | omega | (simp [gup, aup]; omega)) (by show _ < (209 : Int); first | omega | (simp [gup, aup]; omega)) (by decide) rfl ?_
      refine VM_iast 9 hB dX7_blockBegins_128 mar9 rfl mfa9 (by first | omega | (simp [gup, aup]; omega)) (by show _ < (209 : Int); first | omega | (simp [gup, aup]; omega)) (by decide) ?_
      refine V_iinc dX7_blockBegins_129 rfl (by decide) ?_
      refine V_goto 105 dX7_blockBegins_132 (by decide) ?_
      exact V_st e (ih (by omega))
  rw [Int.add_zero, acp_0] at L
  exact L
theorem c_bb14 (hB : MB am B) {f : Int → Int} (hf : ∀ j, inr (f j)) (K : V E mX7_blockBegins 2 0 42 [some (.ref am), some (vI 176), none] [] (mkM am B h0 (gset g 9 (acp f f 11 176 33))) Q X) : V E mX7_blockBegins 2 0 14 [some (.ref am), some (vI 11), none] [] (mkM am B h0 (gset g 9 f)) Q X := by
  have L : V E mX7_blockBegins 2 0 14 [some (.ref am), some (vI 11), none] [] (mkM am B h0 (gset g 9 (acp f f 11 11 33))) Q X := by
    refine loop_upI (P := fun i => V E mX7_blockBegins 2 0 14 [some (.ref am), some (vI i), none] [] (mkM am B h0 (gset g 9 (acp f f 11 i 33))) Q X) 11 176 (fun i h1 h2 ih => ?_) (by omega)
    have e : gup (gset g 9 (acp f f 11 i 33)) 9 i (gset g 9 (acp f f 11 i 33) 9 (i + 33)) = gset g 9 (acp f f 11 (i + 1) 33) := by
      rw [gset_up, gset_eq, acp_lo (by omega), acp_s h1]
    refine V_iload_n dX7_blockBegins_14 rfl ?_
    refine V_sipush dX7_blockBegins_15 (by decide) ?_
    refine V_icmp_ge 42 dX7_blockBegins_18 (by decide) (by first | omega | exact hr_g _ _ | decide) (by first | omega | exact hr_g _ _ | decide) (fun c_18 => ?_) (fun c_18 => ?_)
    · have e6 : i = 176 := (by omega); subst e6; exact K
    · refine V_aload_n dX7_blockBegins_21 rfl ?_
      refine VM_geta 9 dX7_blockBegins_22 q2615 (by decide) rfl ?_
      refine V_iload_n dX7_blockBegins_25 rfl ?_
      refine V_aload_n dX7_blockBegins_26 rfl ?_
      refine VM_geta 9 dX7_blockBegins_27 q2615 (by decide) rfl ?_
      refine V_iload_n dX7_blockBegins_30 rfl ?_
      refine V_bipush dX7_blockBegins_31 (by decide) ?_
      refine V_iadd dX7_blockBegins_33 ?_
      refine VM_ialdE 9 (((gset g 9 (acp f f 11 i 33))) 9 (i + 33)) hB dX7_blockBegins_34 mar9 rfl (by first | omega | (simp [gup, aup]; omega)) (by show _ < (209 : Int); first | omega | (simp [gup, aup]; omega)) (by decide) rfl ?_
      refine VM_iast 9 hB dX7_blockBegins_35 mar9 rfl mfa9 (by first | omega | (simp [gup, aup]; omega)) (by show _ < (209 : Int); first | omega | (simp [gup, aup]; omega)) (by decide) ?_
      refine V_iinc dX7_blockBegins_36 rfl (by decide) ?_
      refine V_goto 14 dX7_blockBegins_39 (by decide) ?_
      exact V_st e (ih (by omega))
  rw [acp_0] at L
  exact L
theorem c_bb135 (hB : MB am B) {v w : Option Value} {f f2 : Int → Int} (h3 : 0 ≤ f 3 ∧ f 3 ≤ 5) (hf : ∀ j, inr (f2 j)) (hx : f2 = aup (aup (aup f (11 + 33 * f 3) (f 0)) (11 + 33 * f 3 + 1) (-9)) (11 + 33 * f 3 + 2) 0) (K : Q .null (mkM am B h0 (gset g 9 (wNew f)))) : V E mX7_blockBegins 2 0 135 [some (.ref am), v, w] [] (mkM am B h0 (gset g 9 (acp f2 f2 (11 + 33 * f 3 + 3) (11 + 33 * f 3 + 3 + 6) (2 - (11 + 33 * f 3))))) Q X := by
  have e3 : acp f2 f2 (11 + 33 * f 3 + 3) (11 + 33 * f 3 + 3 + 6) (2 - (11 + 33 * f 3)) 3 = f 3 := by
    rw [acp_lo (by omega), hx]
    simp only [aup]
    rw [if_neg (by omega), if_neg (by omega), if_neg (by omega)]
  have e : aup (acp f2 f2 (11 + 33 * f 3 + 3) (11 + 33 * f 3 + 3 + 6) (2 - (11 + 33 * f 3))) 3 (f 3 + 1) = wNew f := by
    funext j
    unfold wNew acp
    subst hx
    simp only [aup]
    by_cases j3 : j = 3
    · rw [if_pos j3, if_pos j3]
    · rw [if_neg j3, if_neg j3]
      by_cases c : 11 + 33 * f 3 + 3 ≤ j ∧ j < 11 + 33 * f 3 + 3 + 6
      · rw [if_pos c, if_neg (by omega), if_neg (by omega), if_neg (by omega), if_neg (by omega), if_neg (by omega), if_neg (by omega), if_pos (by omega)]
        congr 1
        omega
      · rw [if_neg c]
        by_cases d1 : j = 11 + 33 * f 3 + 2
        · rw [if_pos d1, if_neg (by omega), if_neg (by omega), if_pos d1]
        · rw [if_neg d1]
          by_cases d2 : j = 11 + 33 * f 3 + 1
          · rw [if_pos d2, if_neg (by omega), if_pos d2]
          · rw [if_neg d2]
            by_cases d3 : j = 11 + 33 * f 3
            · rw [if_pos d3, if_pos d3]
            · rw [if_neg d3, if_neg d3, if_neg d2, if_neg d1, if_neg (by omega)]
  generalize acp f2 f2 (11 + 33 * f 3 + 3) (11 + 33 * f 3 + 3 + 6) (2 - (11 + 33 * f 3)) = F at *
  refine V_aload_n dX7_blockBegins_135 rfl ?_
  refine VM_geta 9 dX7_blockBegins_136 q2615 (by decide) rfl ?_
  refine V_iconst dX7_blockBegins_139 ?_
  refine V_dup2 dX7_blockBegins_140 rfl rfl ?_
  refine VM_ialdE 9 (F 3) hB dX7_blockBegins_141 mar9 rfl (by first | omega | (simp [gup, aup]; omega)) (by show _ < (209 : Int); first | omega | (simp [gup, aup]; omega)) (by decide) rfl ?_
  refine V_iconst dX7_blockBegins_142 ?_
  refine V_iadd dX7_blockBegins_143 ?_
  refine VM_iast 9 hB dX7_blockBegins_144 mar9 rfl mfa9 (by first | omega | (simp [gup, aup]; omega)) (by show _ < (209 : Int); first | omega | (simp [gup, aup]; omega)) (by decide) ?_
  exact V_vret dX7_blockBegins_145 rfl (by rw [gset_up, e3, e]; exact K)
theorem c_bb62 (hB : MB am B) {v : Option Value} {f : Int → Int} (hf : ∀ j, inr (f j)) (h3 : 0 ≤ f 3 ∧ f 3 ≤ 5) (K : Q .null (mkM am B h0 (gset g 9 (wNew f)))) : V E mX7_blockBegins 2 0 62 [some (.ref am), v, none] [] (mkM am B h0 (gset g 9 f)) Q X := by
  have e1 : gup (gup (gup (gset g 9 f) 9 (11 + 33 * f 3) (f 0)) 9 (11 + 33 * f 3 + 1) (-9)) 9 (11 + 33 * f 3 + 2) 0 = gset g 9 (aup (aup (aup f (11 + 33 * f 3) (f 0)) (11 + 33 * f 3 + 1) (-9)) (11 + 33 * f 3 + 2) 0) := by
    rw [gset_up, gset_up, gset_up]
  have hf2 : ∀ j, inr (aup (aup (aup f (11 + 33 * f 3) (f 0)) (11 + 33 * f 3 + 1) (-9)) (11 + 33 * f 3 + 2) 0 j) := by
    intro j
    unfold aup
    repeat' split
    all_goals first | exact hf _ | decide
  refine V_aload_n dX7_blockBegins_62 rfl ?_
  refine VM_geta 9 dX7_blockBegins_63 q2615 (by decide) rfl ?_
  refine V_iconst dX7_blockBegins_66 ?_
  refine VM_ialdE 9 (f 3) hB dX7_blockBegins_67 mar9 rfl (by first | omega | (simp [gup, aup]; omega)) (by show _ < (209 : Int); first | omega | (simp [gup, aup]; omega)) (by decide) rfl ?_
  refine VS_c1 (M' := mX7_block0) okX7_block0 dX7_blockBegins_68 q2603 rfl rfl (Nat.le_of_ble_eq_true rfl) (d' := 1) (b1 := 0) (by decide) (by decide) (c_X7_block0 ?_)
  refine V_istore_n dX7_blockBegins_71 (by decide) ?_
  refine V_aload_n dX7_blockBegins_72 rfl ?_
  refine VM_geta 9 dX7_blockBegins_73 q2615 (by decide) rfl ?_
  refine V_iload_n dX7_blockBegins_76 rfl ?_
  refine V_aload_n dX7_blockBegins_77 rfl ?_
  refine VM_geta 9 dX7_blockBegins_78 q2615 (by decide) rfl ?_
  refine V_iconst dX7_blockBegins_81 ?_
  refine VM_ialdE 9 (f 0) hB dX7_blockBegins_82 mar9 rfl (by first | omega | (simp [gup, aup]; omega)) (by show _ < (209 : Int); first | omega | (simp [gup, aup]; omega)) (by decide) rfl ?_
  refine VM_iast 9 hB dX7_blockBegins_83 mar9 rfl mfa9 (by first | omega | (simp [gup, aup]; omega)) (by show _ < (209 : Int); first | omega | (simp [gup, aup]; omega)) (by decide) ?_
  refine V_aload_n dX7_blockBegins_84 rfl ?_
  refine VM_geta 9 dX7_blockBegins_85 q2615 (by decide) rfl ?_
  refine V_iload_n dX7_blockBegins_88 rfl ?_
  refine V_iconst dX7_blockBegins_89 ?_
  refine V_iadd dX7_blockBegins_90 ?_
  refine V_bipush dX7_blockBegins_91 (by decide) ?_
  refine VM_iast 9 hB dX7_blockBegins_93 mar9 rfl mfa9 (by first | omega | (simp [gup, aup]; omega)) (by show _ < (209 : Int); first | omega | (simp [gup, aup]; omega)) (by decide) ?_
  refine V_aload_n dX7_blockBegins_94 rfl ?_
  refine VM_geta 9 dX7_blockBegins_95 q2615 (by decide) rfl ?_
  refine V_iload_n dX7_blockBegins_98 rfl ?_
  refine V_iconst dX7_blockBegins_99 ?_
  refine V_iadd dX7_blockBegins_100 ?_
  refine V_iconst dX7_blockBegins_101 ?_
  refine VM_iast 9 hB dX7_blockBegins_102 mar9 rfl mfa9 (by first | omega | (simp [gup, aup]; omega)) (by show _ < (209 : Int); first | omega | (simp [gup, aup]; omega)) (by decide) ?_
  refine V_iconst dX7_blockBegins_103 ?_
  refine V_istore_n dX7_blockBegins_104 (by decide) ?_
  refine V_st e1 (c_bb105 hB hf2 (by omega) ?_); exact c_bb135 hB h3 hf2 rfl K
theorem c_X7_blockBegins (hB : MB am B) (hr_g : Rng g) (h3 : 0 ≤ g 9 3 ∧ g 9 3 ≤ 6) (h4 : inr (g 9 4 + 1)) (K : Q .null (mkM am B h0 (gset g 9 (wBegins (g 9))))) : V E mX7_blockBegins 2 0 0 [some (.ref am), none, none] [] (mkM am B h0 g) Q X := by
  unfold wBegins at K
  by_cases c : g 9 3 = 6
  · rw [if_pos c] at K
    have e : aup (aup (acp (g 9) (g 9) 11 176 33) 3 (g 9 3 - 1)) 4 (g 9 4 + 1) = wDrop (g 9) := by
      funext j
      unfold wDrop acp
      simp only [aup]
      by_cases j3 : j = 3
      · rw [if_neg (by omega), if_pos j3, if_pos j3]
      · by_cases j4 : j = 4
        · rw [if_pos j4, if_neg j3, if_pos j4]
        · rw [if_neg j4, if_neg j3, if_neg j3, if_neg j4]
    have hd : ∀ j, inr (wDrop (g 9) j) := by
      intro j
      unfold wDrop
      repeat' split
      all_goals first | exact hr_g _ _ | omega
    have a3 : acp (g 9) (g 9) 11 176 33 3 = g 9 3 := acp_lo (by omega)
    have a4 : acp (g 9) (g 9) 11 176 33 4 = g 9 4 := acp_lo (by omega)
    have K14 : V E mX7_blockBegins 2 0 42 [some (.ref am), some (vI 176), none] [] (mkM am B h0 (gset g 9 (acp (g 9) (g 9) 11 176 33))) Q X := by
      refine V_aload_n dX7_blockBegins_42 rfl ?_
      refine VM_geta 9 dX7_blockBegins_43 q2615 (by decide) rfl ?_
      refine V_iconst dX7_blockBegins_46 ?_
      refine V_dup2 dX7_blockBegins_47 rfl rfl ?_
      refine VM_ialdE 9 ((acp (g 9) (g 9) 11 176 33) 3) hB dX7_blockBegins_48 mar9 rfl (by first | omega | (simp [gup, aup]; omega)) (by show _ < (209 : Int); first | omega | (simp [gup, aup]; omega)) (by decide) rfl ?_
      refine V_iconst dX7_blockBegins_49 ?_
      refine V_isub dX7_blockBegins_50 ?_
      refine VM_iast 9 hB dX7_blockBegins_51 mar9 rfl mfa9 (by first | omega | (simp [gup, aup]; omega)) (by show _ < (209 : Int); first | omega | (simp [gup, aup]; omega)) (by decide) ?_
      refine V_aload_n dX7_blockBegins_52 rfl ?_
      refine VM_geta 9 dX7_blockBegins_53 q2615 (by decide) rfl ?_
      refine V_iconst dX7_blockBegins_56 ?_
      refine V_dup2 dX7_blockBegins_57 rfl rfl ?_
      refine VM_ialdE 9 ((acp (g 9) (g 9) 11 176 33) 4) hB dX7_blockBegins_58 mar9 rfl (by first | omega | (simp [gup, aup]; omega)) (by show _ < (209 : Int); first | omega | (simp [gup, aup]; omega)) (by decide) rfl ?_
      refine V_iconst dX7_blockBegins_59 ?_
      refine V_iadd dX7_blockBegins_60 ?_
      refine VM_iast 9 hB dX7_blockBegins_61 mar9 rfl mfa9 (by first | omega | (simp [gup, aup]; omega)) (by show _ < (209 : Int); first | omega | (simp [gup, aup]; omega)) (by decide) ?_
      refine V_st (by rw [a3, a4, gset_up, gset_up, e]) (c_bb62 hB hd (by unfold wDrop; simp; omega) K)
    refine V_aload_n dX7_blockBegins_0 rfl ?_
    refine VM_geta 9 dX7_blockBegins_1 q2615 (by decide) rfl ?_
    refine V_iconst dX7_blockBegins_4 ?_
    refine VM_ialdE 9 (g 9 3) hB dX7_blockBegins_5 mar9 rfl (by first | omega | (simp [gup, aup]; omega)) (by show _ < (209 : Int); first | omega | (simp [gup, aup]; omega)) (by decide) rfl ?_
    refine V_bipush dX7_blockBegins_6 (by decide) ?_
    refine V_icmp_ne 62 dX7_blockBegins_8 (by decide) (by first | omega | exact hr_g _ _ | decide) (by first | omega | exact hr_g _ _ | decide) (fun c_8 => by exfalso; omega) (fun c_8 => ?_)
    refine V_bipush dX7_blockBegins_11 (by decide) ?_
    refine V_istore_n dX7_blockBegins_13 (by decide) ?_
    have k9 := c_bb14 (g := g) hB (hr_g 9) K14; rw [gset_self] at k9; exact k9
  · rw [if_neg c] at K
    have k9 := c_bb62 (E := E) (X := X) (g := g) (v := none) hB (hr_g 9) (by omega) K
    rw [gset_self] at k9
    refine V_aload_n dX7_blockBegins_0 rfl ?_
    refine VM_geta 9 dX7_blockBegins_1 q2615 (by decide) rfl ?_
    refine V_iconst dX7_blockBegins_4 ?_
    refine VM_ialdE 9 (g 9 3) hB dX7_blockBegins_5 mar9 rfl (by first | omega | (simp [gup, aup]; omega)) (by show _ < (209 : Int); first | omega | (simp [gup, aup]; omega)) (by decide) rfl ?_
    refine V_bipush dX7_blockBegins_6 (by decide) ?_
    refine V_icmp_ne 62 dX7_blockBegins_8 (by decide) (by first | omega | exact hr_g _ _ | decide) (by first | omega | exact hr_g _ _ | decide) (fun c_8 => ?_) (fun c_8 => by exfalso; omega)
    exact k9
/-- all that goes on, at first -/
def w0 : Int → Int := wBegins (fun j => if j = 1 then 1 else if j = 2 then 4 else 0)
def pBegins (g : MG) : MG := gup (gup (gup (gup (gset g 9 (wBegins (aup (aup (acp (g 9) (fun _ => 0) 0 209 0) 1 1) 2 4))) 11 0 0) 49 0 0) 13 0 0) 13 1 0
theorem c_begins2 (hB : MB am B) (K : V E mX7_begins 3 0 22 [some (.ref am), some (vI 209)] [] (mkM am B h0 (gset g 9 (acp (g 9) (fun _ => 0) 0 209 0))) Q X) : V E mX7_begins 3 0 2 [some (.ref am), some (vI 0)] [] (mkM am B h0 g) Q X := by
  have L : V E mX7_begins 3 0 2 [some (.ref am), some (vI 0)] [] (mkM am B h0 (gset g 9 (acp (g 9) (fun _ => 0) 0 0 0))) Q X := by
    refine loop_upI (P := fun i => V E mX7_begins 3 0 2 [some (.ref am), some (vI i)] [] (mkM am B h0 (gset g 9 (acp (g 9) (fun _ => 0) 0 i 0))) Q X) 0 209 (fun i h1 h2 ih => ?_) (by omega)
    refine V_iload_n dX7_begins_2 rfl ?_
    refine V_sipush dX7_begins_3 (by decide) ?_
    refine V_icmp_ge 22 dX7_begins_6 (by decide) (by first | omega | exact hr_g _ _ | decide) (by first | omega | exact hr_g _ _ | decide) (fun c_6 => ?_) (fun c_6 => ?_)
    · have e6 : i = 209 := (by omega); subst e6; exact K
    · refine V_aload_n dX7_begins_9 rfl ?_
      refine VM_geta 9 dX7_begins_10 q2615 (by decide) rfl ?_
      refine V_iload_n dX7_begins_13 rfl ?_
      refine V_iconst dX7_begins_14 ?_
      refine VM_iast 9 hB dX7_begins_15 mar9 rfl mfa9 (by first | omega | (simp [gup, aup]; omega)) (by show _ < (209 : Int); first | omega | (simp [gup, aup]; omega)) (by decide) ?_
      refine V_iinc dX7_begins_16 rfl (by decide) ?_
      refine V_goto 2 dX7_begins_19 (by decide) ?_
      exact V_st (by rw [gset_up]; congr 1; exact acp_s (a := g 9) (b := fun _ => 0) (m := 0) h1) (ih (by omega))
  rw [acp_0, gset_self] at L
  exact L
theorem c_X7_begins (hB : MB am B) (hr_g : Rng g) (K : Q .null (mkM am B h0 (pBegins g))) : V E mX7_begins 3 0 0 [some (.ref am), none] [] (mkM am B h0 g) Q X := by
  have hz : ∀ j, inr (aup (aup (acp (g 9) (fun _ => 0) 0 209 0) 1 1) 2 4 j) := by
    intro j
    unfold aup acp
    repeat' split
    all_goals first | exact hr_g _ _ | decide | (show inr 0; decide)
  have hrz : Rng (gset g 9 (aup (aup (acp (g 9) (fun _ => 0) 0 209 0) 1 1) 2 4)) := hr_g.set hz
  have k3 : aup (aup (acp (g 9) (fun _ => 0) 0 209 0) 1 1) 2 4 3 = 0 := rfl
  have k4 : aup (aup (acp (g 9) (fun _ => 0) 0 209 0) 1 1) 2 4 4 = 0 := rfl
  have K22 : V E mX7_begins 3 0 22 [some (.ref am), some (vI 209)] [] (mkM am B h0 (gset g 9 (acp (g 9) (fun _ => 0) 0 209 0))) Q X := by
    refine V_aload_n dX7_begins_22 rfl ?_
    refine VM_geta 9 dX7_begins_23 q2615 (by decide) rfl ?_
    refine V_iconst dX7_begins_26 ?_
    refine V_iconst dX7_begins_27 ?_
    refine VM_iast 9 hB dX7_begins_28 mar9 rfl mfa9 (by first | omega | (simp [gup, aup]; omega)) (by show _ < (209 : Int); first | omega | (simp [gup, aup]; omega)) (by decide) ?_
    refine V_aload_n dX7_begins_29 rfl ?_
    refine VM_geta 9 dX7_begins_30 q2615 (by decide) rfl ?_
    refine V_iconst dX7_begins_33 ?_
    refine V_iconst dX7_begins_34 ?_
    refine VM_iast 9 hB dX7_begins_35 mar9 rfl mfa9 (by first | omega | (simp [gup, aup]; omega)) (by show _ < (209 : Int); first | omega | (simp [gup, aup]; omega)) (by decide) ?_
    refine V_st (g' := gset g 9 (aup (aup (acp (g 9) (fun _ => 0) 0 209 0) 1 1) 2 4)) (by rw [gset_up, gset_up]) ?_
    refine V_aload_n dX7_begins_36 rfl ?_
    refine VM_v0 (M' := mX7_blockBegins) okX7_blockBegins rfl dX7_begins_37 q2599 rfl rfl (Nat.le_of_ble_eq_true rfl) (d' := 2) (b1 := 0) (by decide) (by decide) (c_X7_blockBegins hB hrz (by rw [gset_eq, k3]; omega) (by rw [gset_eq, k4]; decide) ?_)
    refine V_aload_n dX7_begins_40 rfl ?_
    refine V_iconst dX7_begins_41 ?_
    refine VM_puti 11 dX7_begins_42 q2617 (by decide) rfl rfl mfs11 mna11 ?_
    refine V_aload_n dX7_begins_45 rfl ?_
    refine V_iconst dX7_begins_46 ?_
    refine VM_puti 49 dX7_begins_47 q2655 (by decide) rfl rfl mfs49 mna49 ?_
    refine V_aload_n dX7_begins_50 rfl ?_
    refine VM_geta 13 dX7_begins_51 q2619 (by decide) rfl ?_
    refine V_iconst dX7_begins_54 ?_
    refine V_iconst dX7_begins_55 ?_
    refine VM_zast 13 hB dX7_begins_56 mar13 rfl mfa13 (by first | decide | omega) (by first | omega | (simp [gup, aup]; omega)) (by show _ < (2 : Int); first | omega | (simp [gup, aup]; omega)) (by decide) ?_
    refine V_aload_n dX7_begins_57 rfl ?_
    refine VM_geta 13 dX7_begins_58 q2619 (by decide) rfl ?_
    refine V_iconst dX7_begins_61 ?_
    refine V_iconst dX7_begins_62 ?_
    refine VM_zast 13 hB dX7_begins_63 mar13 rfl mfa13 (by first | decide | omega) (by first | omega | (simp [gup, aup]; omega)) (by show _ < (2 : Int); first | omega | (simp [gup, aup]; omega)) (by decide) ?_
    exact V_vret dX7_begins_64 rfl (by unfold pBegins at K; rw [gset_eq, gset_gset]; exact K)
  refine V_iconst dX7_begins_0 ?_
  refine V_istore_n dX7_begins_1 (by decide) ?_
  exact c_begins2 hB K22
end M10
