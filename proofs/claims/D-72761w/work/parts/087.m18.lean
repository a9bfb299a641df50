/-! THE REFERENCE'S METHODS, part 18: what is done -/
/-- a block of what goes on -/
def BK (s : Int → Int) (T b : Int) : Prop := (0 ≤ s (11 + 33 * b) ∧ s (11 + 33 * b) ≤ T) ∧ (s (11 + 33 * b + 1) = -9 ∨ (s (11 + 33 * b) ≤ s (11 + 33 * b + 1) ∧ s (11 + 33 * b + 1) ≤ T)) ∧ (0 ≤ s (11 + 33 * b + 2) ∧ s (11 + 33 * b + 2) ≤ 8) ∧ (∀ w, 0 ≤ w → w < 6 → 0 ≤ s (11 + 33 * b + 3 + w) ∧ s (11 + 33 * b + 3 + w) ≤ 255) ∧ ∀ i, 0 ≤ i → i < s (11 + 33 * b + 2) → (s (11 + 33 * b) ≤ s (11 + 33 * b + 9 + 3 * i) ∧ s (11 + 33 * b + 9 + 3 * i) ≤ T) ∧ (0 ≤ s (11 + 33 * b + 9 + 3 * i + 1) ∧ s (11 + 33 * b + 9 + 3 * i + 1) < 6) ∧ 0 ≤ s (11 + 33 * b + 9 + 3 * i + 2) ∧ s (11 + 33 * b + 9 + 3 * i + 2) ≤ 255
def WI (c : Int) (s : Int → Int) : Prop := (0 ≤ s 0 ∧ s 0 ≤ 999) ∧ (s 1 = 0 ∨ s 1 = 1) ∧ (1 ≤ s 2 ∧ s 2 ≤ 8) ∧ (1 ≤ s 3 ∧ s 3 ≤ 6) ∧ (0 ≤ s 4 ∧ s 4 ≤ c) ∧ (∀ w, 0 ≤ w → w < 6 → 0 ≤ s (5 + w) ∧ s (5 + w) ≤ 255) ∧ ∀ b, 0 ≤ b → b < s 3 → BK s (s 0) b
def nShift (g : MG) : MG := if g 11 0 = 6 then gup (gset g 10 (acp (g 10) (g 10) 0 1045 209)) 11 0 5 else g
def nPut (g : MG) : MG := gup (gset g 10 (acp (g 10) (g 9) (209 * g 11 0) (209 * g 11 0 + 209) (-(209 * g 11 0)))) 11 0 (g 11 0 + 1)
/-- what stands is noted, to come back to -/
def pNoted (g : MG) : MG := nPut (nShift g)
theorem nShift_ne {g : MG} {k : Nat} (h : k ≠ 10 ∧ k ≠ 11) : nShift g k = g k := by
  unfold nShift; split
  · rw [gup_ne h.2, gset_ne h.1]
  · rfl
theorem nPut_ne {g : MG} {k : Nat} (h : k ≠ 10 ∧ k ≠ 11) : nPut g k = g k := by
  unfold nPut; rw [gup_ne h.2, gset_ne h.1]
theorem pNoted_ne {g : MG} {k : Nat} (h : k ≠ 10 ∧ k ≠ 11) : pNoted g k = g k := by
  unfold pNoted; rw [nPut_ne h, nShift_ne h]
theorem nShift_r {g : MG} (h : Rng g) : Rng (nShift g) := by
  unfold nShift; split
  · exact (h.set (acp_r (h 10) (h 10))).up (by decide)
  · exact h
theorem nPut_r {g : MG} (h : Rng g) (h11 : 0 ≤ g 11 0 ∧ g 11 0 ≤ 5) : Rng (nPut g) := (h.set (acp_r (h 10) (h 9))).up (by constructor <;> omega)
theorem nShift_11 {g : MG} (h : 0 ≤ g 11 0 ∧ g 11 0 ≤ 6) : 0 ≤ nShift g 11 0 ∧ nShift g 11 0 ≤ 5 := by
  unfold nShift; split
  · show (0:Int) ≤ 5 ∧ (5:Int) ≤ 5; omega
  · omega
theorem pNoted_r {g : MG} (h : Rng g) (h11 : 0 ≤ g 11 0 ∧ g 11 0 ≤ 6) : Rng (pNoted g) := nPut_r (nShift_r h) (nShift_11 h11)
section M18
variable {E : Ev} {am : Nat} {B : Nat → Nat} {h0 h : AH} {g : MG} {Q : Value → AH → Prop} {X : Nat → AH → Prop}
theorem c_notes50 (hB : MB am B) {v : Option Value} (hr_g : Rng g) (h11 : 0 ≤ g 11 0 ∧ g 11 0 ≤ 5) (K : Q .null (mkM am B h0 (nPut g))) : V E mX7_notes 1 0 50 [some (.ref am), v] [] (mkM am B h0 g) Q X := by
  have L : V E mX7_notes 1 0 52 [some (.ref am), some (vI 0)] [] (mkM am B h0 (gset g 10 (acp (g 10) (g 9) (209 * g 11 0) (209 * g 11 0 + 0) (-(209 * g 11 0))))) Q X := by
    refine loop_upI (P := fun i => V E mX7_notes 1 0 52 [some (.ref am), some (vI i)] [] (mkM am B h0 (gset g 10 (acp (g 10) (g 9) (209 * g 11 0) (209 * g 11 0 + i) (-(209 * g 11 0))))) Q X) 0 209 (fun i h1 h2 ih => ?_) (by omega)
    have hrA : Rng (gset g 10 (acp (g 10) (g 9) (209 * g 11 0) (209 * g 11 0 + i) (-(209 * g 11 0)))) := hr_g.set (acp_r (hr_g 10) (hr_g 9))
    by_cases hi : i = 209
    · subst hi
      refine V_iload_n dX7_notes_52 rfl ?_
      refine V_sipush dX7_notes_53 (by decide) ?_
      refine V_icmp_ge 86 dX7_notes_56 (by decide) (by first | omega | exact hr_g _ _ | decide) (by first | omega | exact hr_g _ _ | decide) (fun c_56 => ?_) (fun c_56 => absurd c_56 (by decide))
      refine V_aload_n dX7_notes_86 rfl ?_
      refine V_dup dX7_notes_87 rfl ?_
      refine VM_getiE 11 (g 11 0) dX7_notes_88 q2617 (by decide) rfl rfl ?_
      refine V_iconst dX7_notes_91 ?_
      refine V_iadd dX7_notes_92 ?_
      refine VM_puti 11 dX7_notes_93 q2617 (by decide) rfl rfl mfs11 mna11 ?_
      exact V_vret dX7_notes_96 rfl (by exact K)
    · refine V_iload_n dX7_notes_52 rfl ?_
      refine V_sipush dX7_notes_53 (by decide) ?_
      refine V_icmp_ge 86 dX7_notes_56 (by decide) (by first | omega | exact hr_g _ _ | decide) (by first | omega | exact hr_g _ _ | decide) (fun c_56 => by exfalso; omega) (fun c_56 => ?_)
      refine V_aload_n dX7_notes_59 rfl ?_
      refine VM_geta 10 dX7_notes_60 q2616 (by decide) rfl ?_
      refine V_sipush dX7_notes_63 (by decide) ?_
      refine V_aload_n dX7_notes_66 rfl ?_
      refine VM_getiE 11 (g 11 0) dX7_notes_67 q2617 (by decide) rfl rfl ?_
      refine V_imul dX7_notes_70 ?_
      refine V_iload_n dX7_notes_71 rfl ?_
      refine V_iadd dX7_notes_72 ?_
      refine V_aload_n dX7_notes_73 rfl ?_
      refine VM_geta 9 dX7_notes_74 q2615 (by decide) rfl ?_
      refine V_iload_n dX7_notes_77 rfl ?_
      refine VM_ialdE 9 (g 9 i) hB dX7_notes_78 mar9 rfl (by first | omega | (simp [gup, aup]; omega)) (by show _ < (209 : Int); first | omega | (simp [gup, aup]; omega)) (by decide) rfl ?_
      refine VM_iast 10 hB dX7_notes_79 mar10 rfl mfa10 (by first | omega | (simp [gup, aup]; omega)) (by show _ < (1254 : Int); first | omega | (simp [gup, aup]; omega)) (by decide) ?_
      refine V_iinc dX7_notes_80 rfl (by decide) ?_
      refine V_goto 52 dX7_notes_83 (by decide) ?_
      refine V_st ?_ (ih (by omega)); rw [gset_up]; have a1 := acp_s (a := g 10) (b := g 9) (lo := 209 * g 11 0) (i := 209 * g 11 0 + i) (m := -(209 * g 11 0)) (by omega); rw [show 209 * g 11 0 + i + -(209 * g 11 0) = i by omega, show 209 * g 11 0 + i + 1 = 209 * g 11 0 + (i + 1) by omega] at a1; rw [a1]
  rw [Int.add_zero, acp_0, gset_self] at L
  refine V_iconst dX7_notes_50 ?_
  refine V_istore_n dX7_notes_51 (by decide) ?_
  exact L
theorem c_notes11 (hB : MB am B) (hr_g : Rng g) (K : V E mX7_notes 1 0 40 [some (.ref am), some (vI 1045)] [] (mkM am B h0 (gset g 10 (acp (g 10) (g 10) 0 1045 209))) Q X) : V E mX7_notes 1 0 11 [some (.ref am), some (vI 0)] [] (mkM am B h0 g) Q X := by
  have L : V E mX7_notes 1 0 11 [some (.ref am), some (vI 0)] [] (mkM am B h0 (gset g 10 (acp (g 10) (g 10) 0 0 209))) Q X := by
    refine loop_upI (P := fun i => V E mX7_notes 1 0 11 [some (.ref am), some (vI i)] [] (mkM am B h0 (gset g 10 (acp (g 10) (g 10) 0 i 209))) Q X) 0 1045 (fun i h1 h2 ih => ?_) (by omega)
    have hrA : Rng (gset g 10 (acp (g 10) (g 10) 0 i 209)) := hr_g.set (acp_r (hr_g 10) (hr_g 10))
    have e : gup (gset g 10 (acp (g 10) (g 10) 0 i 209)) 10 i (acp (g 10) (g 10) 0 i 209 (i + 209)) = gset g 10 (acp (g 10) (g 10) 0 (i + 1) 209) := by
      rw [gset_up, acp_lo (by omega), acp_s h1]
    refine V_iload_n dX7_notes_11 rfl ?_
    refine V_sipush dX7_notes_12 (by decide) ?_
    refine V_icmp_ge 40 dX7_notes_15 (by decide) (by first | omega | exact hr_g _ _ | decide) (by first | omega | exact hr_g _ _ | decide) (fun c_15 => ?_) (fun c_15 => ?_)
    · have e6 : i = 1045 := (by omega); subst e6; exact K
    · refine V_aload_n dX7_notes_18 rfl ?_
      refine VM_geta 10 dX7_notes_19 q2616 (by decide) rfl ?_
      refine V_iload_n dX7_notes_22 rfl ?_
      refine V_aload_n dX7_notes_23 rfl ?_
      refine VM_geta 10 dX7_notes_24 q2616 (by decide) rfl ?_
      refine V_iload_n dX7_notes_27 rfl ?_
      refine V_sipush dX7_notes_28 (by decide) ?_
      refine V_iadd dX7_notes_31 ?_
      refine VM_ialdE 10 (((acp (g 10) (g 10) 0 i 209)) (i + 209)) hB dX7_notes_32 mar10 rfl (by first | omega | (simp [gup, aup]; omega)) (by show _ < (1254 : Int); first | omega | (simp [gup, aup]; omega)) (by decide) rfl ?_
      refine VM_iast 10 hB dX7_notes_33 mar10 rfl mfa10 (by first | omega | (simp [gup, aup]; omega)) (by show _ < (1254 : Int); first | omega | (simp [gup, aup]; omega)) (by decide) ?_
      refine V_iinc dX7_notes_34 rfl (by decide) ?_
      refine V_goto 11 dX7_notes_37 (by decide) ?_
      exact V_st e (ih (by omega))
  rw [acp_0, gset_self] at L
  exact L
theorem c_X7_notes (hB : MB am B) (hr_g : Rng g) (h11 : 0 ≤ g 11 0 ∧ g 11 0 ≤ 6) (K : Q .null (mkM am B h0 (pNoted g))) : V E mX7_notes 1 0 0 [some (.ref am), none] [] (mkM am B h0 g) Q X := by
  have h5 := nShift_11 h11
  have hrs := nShift_r hr_g
  unfold pNoted at K
  by_cases c : g 11 0 = 6
  · have e : nShift g = gup (gset g 10 (acp (g 10) (g 10) 0 1045 209)) 11 0 5 := by unfold nShift; rw [if_pos c]
    have hrA : Rng (gset g 10 (acp (g 10) (g 10) 0 1045 209)) := hr_g.set (acp_r (hr_g 10) (hr_g 10))
    have L : V E mX7_notes 1 0 40 [some (.ref am), some (vI 1045)] [] (mkM am B h0 (gset g 10 (acp (g 10) (g 10) 0 1045 209))) Q X := by
      refine V_aload_n dX7_notes_40 rfl ?_
      refine V_dup dX7_notes_41 rfl ?_
      refine VM_getiE 11 (g 11 0) dX7_notes_42 q2617 (by decide) rfl rfl ?_
      refine V_iconst dX7_notes_45 ?_
      refine V_isub dX7_notes_46 ?_
      refine VM_puti 11 dX7_notes_47 q2617 (by decide) rfl rfl mfs11 mna11 ?_
      refine V_st (g' := nShift g) ?_ (c_notes50 hB hrs h5 K); rw [e, c]; rfl
    refine V_aload_n dX7_notes_0 rfl ?_
    refine VM_getiE 11 (g 11 0) dX7_notes_1 q2617 (by decide) rfl rfl ?_
    refine V_bipush dX7_notes_4 (by decide) ?_
    refine V_icmp_ne 50 dX7_notes_6 (by decide) (by first | omega | exact hr_g _ _ | decide) (by first | omega | exact hr_g _ _ | decide) (fun c_6 => by exfalso; omega) (fun c_6 => ?_)
    refine V_iconst dX7_notes_9 ?_
    refine V_istore_n dX7_notes_10 (by decide) ?_
    exact c_notes11 hB hr_g L
  · have e : nShift g = g := by unfold nShift; rw [if_neg c]
    rw [e] at K h5
    refine V_aload_n dX7_notes_0 rfl ?_
    refine VM_getiE 11 (g 11 0) dX7_notes_1 q2617 (by decide) rfl rfl ?_
    refine V_bipush dX7_notes_4 (by decide) ?_
    refine V_icmp_ne 50 dX7_notes_6 (by decide) (by first | omega | exact hr_g _ _ | decide) (by first | omega | exact hr_g _ _ | decide) (fun c_6 => ?_) (fun c_6 => by exfalso; omega)
    exact c_notes50 hB hr_g h5 K
end M18
