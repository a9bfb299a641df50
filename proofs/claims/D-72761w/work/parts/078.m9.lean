/-! THE REFERENCE'S METHODS, part 9: copies of rows -/
/-- field k's row is f -/
def gset (g : MG) (k : Nat) (f : Int → Int) : MG := fun k' => if k' = k then f else g k'
theorem gset_eq {g : MG} {k : Nat} {f : Int → Int} : gset g k f k = f := by simp [gset]
theorem gset_ne {g : MG} {k k' : Nat} {f : Int → Int} (h : k' ≠ k) : gset g k f k' = g k' := by simp [gset, h]
theorem gset_self {g : MG} {k : Nat} : gset g k (g k) = g := by
  funext k'
  unfold gset
  by_cases h : k' = k
  · subst h; simp
  · simp [h]
theorem gset_up {g : MG} {k : Nat} {f : Int → Int} {i v : Int} : gup (gset g k f) k i v = gset g k (aup f i v) := by
  funext k'
  unfold gup gset
  by_cases h : k' = k
  · subst h; simp
  · simp [h]
/-- a's places from lo on, below i, are b's (b moved by m) -/
def acp (a b : Int → Int) (lo i m : Int) : Int → Int := fun j => if lo ≤ j ∧ j < i then b (j + m) else a j
theorem acp_0 {a b : Int → Int} {lo m : Int} : acp a b lo lo m = a := by
  funext j
  unfold acp
  rw [if_neg (by omega)]
theorem acp_s {a b : Int → Int} {lo i m : Int} (h : lo ≤ i) : aup (acp a b lo i m) i (b (i + m)) = acp a b lo (i + 1) m := by
  funext j
  unfold aup acp
  by_cases h1 : j = i
  · subst h1
    rw [if_pos rfl, if_pos (by omega)]
  · rw [if_neg h1]
    by_cases h2 : lo ≤ j ∧ j < i
    · rw [if_pos h2, if_pos (by omega)]
    · rw [if_neg h2, if_neg (by omega)]
theorem Rng.set {g : MG} (h : Rng g) {k : Nat} {f : Int → Int} (hf : ∀ i, inr (f i)) : Rng (gset g k f) := by
  intro k' i'
  unfold gset
  by_cases hk : k' = k
  · simp only [hk, if_true]; exact hf i'
  · simp only [if_neg hk]; exact h _ _
theorem acp_r {a b : Int → Int} {lo i m : Int} (ha : ∀ j, inr (a j)) (hb : ∀ j, inr (b j)) : ∀ j, inr (acp a b lo i m j) := by
  intro j
  unfold acp
  split
  · exact hb _
  · exact ha _
theorem cp_s {g : MG} {k k2 : Nat} {lo i : Int} (hk : k2 ≠ k) (h : lo ≤ i) : gup (gset g k (acp (g k) (g k2) lo i 0)) k i (gset g k (acp (g k) (g k2) lo i 0) k2 i) = gset g k (acp (g k) (g k2) lo (i + 1) 0) := by
  rw [gset_up, gset_ne hk, ← acp_s h, Int.add_zero]
noncomputable def pTake1 (g : MG) : MG := gup (gup (gup (gup g 1 0 (g 22 0)) 2 0 (g 23 0)) 3 0 (g 24 0)) 6 0 (g 27 0)
noncomputable def pCp (g : MG) (k k2 : Nat) (n : Int) : MG := gset g k (acp (g k) (g k2) 0 n 0)
noncomputable def pTake (g : MG) : MG := pCp (pCp (pCp (pCp (pCp (pTake1 g) 0 21 72) 4 25 6) 5 26 6) 7 28 160) 8 29 4
theorem pCp_r {g : MG} (h : Rng g) (k k2 : Nat) (n : Int) : Rng (pCp g k k2 n) := h.set (acp_r (h k) (h k2))
theorem pCp_0 {g : MG} {k k2 : Nat} : pCp g k k2 0 = g := by unfold pCp; rw [acp_0, gset_self]
theorem pCp_ne {g : MG} {k k2 j : Nat} {n : Int} (h : j ≠ k) : pCp g k k2 n j = g j := gset_ne h
theorem pCp_at {g : MG} {k k2 : Nat} {n i : Int} (h : 0 ≤ i) (h2 : i < n) : pCp g k k2 n k i = g k2 i := by
  unfold pCp; rw [gset_eq]; unfold acp; rw [if_pos ⟨h, h2⟩, Int.add_zero]
theorem pCp_s {g : MG} {k k2 : Nat} {i : Int} (hk : k2 ≠ k) (h : 0 ≤ i) : gup (pCp g k k2 i) k i (pCp g k k2 i k2 i) = pCp g k k2 (i + 1) := cp_s hk h
theorem gset_gset_c {g : MG} {k k' : Nat} {f f' : Int → Int} (h : k ≠ k') : gset (gset g k f) k' f' = gset (gset g k' f') k f := by
  funext j
  unfold gset
  by_cases h1 : j = k' <;> by_cases h2 : j = k <;> simp_all
theorem cp_two {g : MG} {i : Int} (h : 0 ≤ i) : gup (gup (pCp (pCp g 4 25 i) 5 26 i) 4 i (pCp g 4 25 i 25 i)) 5 i (pCp (pCp g 4 25 i) 5 26 i 26 i) = pCp (pCp g 4 25 (i + 1)) 5 26 (i + 1) := by
  have e1 : pCp g 4 25 i 25 i = g 25 i := by rw [pCp_ne (by decide)]
  have e2 : pCp (pCp g 4 25 i) 5 26 i 26 i = g 26 i := by rw [pCp_ne (by decide), pCp_ne (by decide)]
  have a1 := acp_s (a := g 4) (b := g 25) (m := 0) h
  have a2 := acp_s (a := g 5) (b := g 26) (m := 0) h
  rw [Int.add_zero] at a1 a2
  rw [e1, e2]
  unfold pCp
  rw [gset_gset_c (k := 4) (k' := 5) (by decide), gset_up]
  simp only [gset_ne (k := 4) (k' := 5) (by decide), gset_ne (k := 4) (k' := 26) (by decide)]
  rw [gset_gset_c (k := 5) (k' := 4) (by decide), gset_up, a1, a2]
section M9
variable {E : Ev} {am : Nat} {B : Nat → Nat} {h0 h : AH} {g : MG} {Q : Value → AH → Prop} {X : Nat → AH → Prop}
theorem c_take34 (hB : MB am B) (hr_g : Rng g) (K : V E mX7_takesOver 1 0 58 [some (.ref am), some (vI 72)] [] (mkM am B h0 (pCp g 0 21 72)) Q X) : V E mX7_takesOver 1 0 34 [some (.ref am), some (vI 0)] [] (mkM am B h0 g) Q X := by
  have L : V E mX7_takesOver 1 0 34 [some (.ref am), some (vI 0)] [] (mkM am B h0 (pCp g 0 21 0)) Q X := by
    refine loop_upI (P := fun i => V E mX7_takesOver 1 0 34 [some (.ref am), some (vI i)] [] (mkM am B h0 (pCp g 0 21 i)) Q X) 0 72 (fun i h1 h2 ih => ?_) (by omega)
    refine V_iload_n dX7_takesOver_34 rfl ?_
    refine V_bipush dX7_takesOver_35 (by decide) ?_
    refine V_icmp_ge 58 dX7_takesOver_37 (by decide) (by first | omega | exact hr_g _ _ | decide) (by first | omega | exact hr_g _ _ | decide) (fun c_37 => ?_) (fun c_37 => ?_)
    · have e : i = 72 := (by omega); subst e; exact K
    · refine V_aload_n dX7_takesOver_40 rfl ?_
      refine VM_geta 0 dX7_takesOver_41 q2606 (by decide) rfl ?_
      refine V_iload_n dX7_takesOver_44 rfl ?_
      refine V_aload_n dX7_takesOver_45 rfl ?_
      refine VM_geta 21 dX7_takesOver_46 q2627 (by decide) rfl ?_
      refine V_iload_n dX7_takesOver_49 rfl ?_
      refine VM_ialdE 21 (((pCp g 0 21 i)) 21 i) hB dX7_takesOver_50 mar21 rfl (by first | omega | (simp [gup, aup]; omega)) (by show _ < (72 : Int); first | omega | (simp [gup, aup]; omega)) (by decide) rfl ?_
      refine VM_iast 0 hB dX7_takesOver_51 mar0 rfl mfa0 (by first | omega | (simp [gup, aup]; omega)) (by show _ < (72 : Int); first | omega | (simp [gup, aup]; omega)) (by decide) ?_
      refine V_iinc dX7_takesOver_52 rfl (by decide) ?_
      refine V_goto 34 dX7_takesOver_55 (by decide) ?_
      exact V_st (pCp_s (by decide) h1) (ih (by omega))
  rw [pCp_0] at L
  exact L
theorem c_take98 (hB : MB am B) (hr_g : Rng g) (K : V E mX7_takesOver 1 0 123 [some (.ref am), some (vI 160)] [] (mkM am B h0 (pCp g 7 28 160)) Q X) : V E mX7_takesOver 1 0 98 [some (.ref am), some (vI 0)] [] (mkM am B h0 g) Q X := by
  have L : V E mX7_takesOver 1 0 98 [some (.ref am), some (vI 0)] [] (mkM am B h0 (pCp g 7 28 0)) Q X := by
    refine loop_upI (P := fun i => V E mX7_takesOver 1 0 98 [some (.ref am), some (vI i)] [] (mkM am B h0 (pCp g 7 28 i)) Q X) 0 160 (fun i h1 h2 ih => ?_) (by omega)
    refine V_iload_n dX7_takesOver_98 rfl ?_
    refine V_sipush dX7_takesOver_99 (by decide) ?_
    refine V_icmp_ge 123 dX7_takesOver_102 (by decide) (by first | omega | exact hr_g _ _ | decide) (by first | omega | exact hr_g _ _ | decide) (fun c_102 => ?_) (fun c_102 => ?_)
    · have e : i = 160 := (by omega); subst e; exact K
    · refine V_aload_n dX7_takesOver_105 rfl ?_
      refine VM_geta 7 dX7_takesOver_106 q2613 (by decide) rfl ?_
      refine V_iload_n dX7_takesOver_109 rfl ?_
      refine V_aload_n dX7_takesOver_110 rfl ?_
      refine VM_geta 28 dX7_takesOver_111 q2634 (by decide) rfl ?_
      refine V_iload_n dX7_takesOver_114 rfl ?_
      refine VM_ialdE 28 (((pCp g 7 28 i)) 28 i) hB dX7_takesOver_115 mar28 rfl (by first | omega | (simp [gup, aup]; omega)) (by show _ < (160 : Int); first | omega | (simp [gup, aup]; omega)) (by decide) rfl ?_
      refine VM_iast 7 hB dX7_takesOver_116 mar7 rfl mfa7 (by first | omega | (simp [gup, aup]; omega)) (by show _ < (160 : Int); first | omega | (simp [gup, aup]; omega)) (by decide) ?_
      refine V_iinc dX7_takesOver_117 rfl (by decide) ?_
      refine V_goto 98 dX7_takesOver_120 (by decide) ?_
      exact V_st (pCp_s (by decide) h1) (ih (by omega))
  rw [pCp_0] at L
  exact L
theorem c_take125 (hB : MB am B) (hr_g : Rng g) (K : V E mX7_takesOver 1 0 148 [some (.ref am), some (vI 4)] [] (mkM am B h0 (pCp g 8 29 4)) Q X) : V E mX7_takesOver 1 0 125 [some (.ref am), some (vI 0)] [] (mkM am B h0 g) Q X := by
  have L : V E mX7_takesOver 1 0 125 [some (.ref am), some (vI 0)] [] (mkM am B h0 (pCp g 8 29 0)) Q X := by
    refine loop_upI (P := fun i => V E mX7_takesOver 1 0 125 [some (.ref am), some (vI i)] [] (mkM am B h0 (pCp g 8 29 i)) Q X) 0 4 (fun i h1 h2 ih => ?_) (by omega)
    refine V_iload_n dX7_takesOver_125 rfl ?_
    refine V_iconst dX7_takesOver_126 ?_
    refine V_icmp_ge 148 dX7_takesOver_127 (by decide) (by first | omega | exact hr_g _ _ | decide) (by first | omega | exact hr_g _ _ | decide) (fun c_127 => ?_) (fun c_127 => ?_)
    · have e : i = 4 := (by omega); subst e; exact K
    · refine V_aload_n dX7_takesOver_130 rfl ?_
      refine VM_geta 8 dX7_takesOver_131 q2614 (by decide) rfl ?_
      refine V_iload_n dX7_takesOver_134 rfl ?_
      refine V_aload_n dX7_takesOver_135 rfl ?_
      refine VM_geta 29 dX7_takesOver_136 q2635 (by decide) rfl ?_
      refine V_iload_n dX7_takesOver_139 rfl ?_
      refine VM_ialdE 29 (((pCp g 8 29 i)) 29 i) hB dX7_takesOver_140 mar29 rfl (by first | omega | (simp [gup, aup]; omega)) (by show _ < (4 : Int); first | omega | (simp [gup, aup]; omega)) (by decide) rfl ?_
      refine VM_iast 8 hB dX7_takesOver_141 mar8 rfl mfa8 (by first | omega | (simp [gup, aup]; omega)) (by show _ < (4 : Int); first | omega | (simp [gup, aup]; omega)) (by decide) ?_
      refine V_iinc dX7_takesOver_142 rfl (by decide) ?_
      refine V_goto 125 dX7_takesOver_145 (by decide) ?_
      exact V_st (pCp_s (by decide) h1) (ih (by omega))
  rw [pCp_0] at L
  exact L
theorem c_take60 (hB : MB am B) (hr_g : Rng g) (K : V E mX7_takesOver 1 0 96 [some (.ref am), some (vI 6)] [] (mkM am B h0 (pCp (pCp g 4 25 6) 5 26 6)) Q X) : V E mX7_takesOver 1 0 60 [some (.ref am), some (vI 0)] [] (mkM am B h0 g) Q X := by
  have L : V E mX7_takesOver 1 0 60 [some (.ref am), some (vI 0)] [] (mkM am B h0 (pCp (pCp g 4 25 0) 5 26 0)) Q X := by
    refine loop_upI (P := fun i => V E mX7_takesOver 1 0 60 [some (.ref am), some (vI i)] [] (mkM am B h0 (pCp (pCp g 4 25 i) 5 26 i)) Q X) 0 6 (fun i h1 h2 ih => ?_) (by omega)
    refine V_iload_n dX7_takesOver_60 rfl ?_
    refine V_bipush dX7_takesOver_61 (by decide) ?_
    refine V_icmp_ge 96 dX7_takesOver_63 (by decide) (by first | omega | exact hr_g _ _ | decide) (by first | omega | exact hr_g _ _ | decide) (fun c_63 => ?_) (fun c_63 => ?_)
    · have e : i = 6 := (by omega); subst e; exact K
    · refine V_aload_n dX7_takesOver_66 rfl ?_
      refine VM_geta 4 dX7_takesOver_67 q2610 (by decide) rfl ?_
      refine V_iload_n dX7_takesOver_70 rfl ?_
      refine V_aload_n dX7_takesOver_71 rfl ?_
      refine VM_geta 25 dX7_takesOver_72 q2631 (by decide) rfl ?_
      refine V_iload_n dX7_takesOver_75 rfl ?_
      refine VM_ialdE 25 (((pCp (pCp g 4 25 i) 5 26 i)) 25 i) hB dX7_takesOver_76 mar25 rfl (by first | omega | (simp [gup, aup]; omega)) (by show _ < (6 : Int); first | omega | (simp [gup, aup]; omega)) (by decide) rfl ?_
      refine VM_iast 4 hB dX7_takesOver_77 mar4 rfl mfa4 (by first | omega | (simp [gup, aup]; omega)) (by show _ < (6 : Int); first | omega | (simp [gup, aup]; omega)) (by decide) ?_
      refine V_aload_n dX7_takesOver_78 rfl ?_
      refine VM_geta 5 dX7_takesOver_79 q2611 (by decide) rfl ?_
      refine V_iload_n dX7_takesOver_82 rfl ?_
      refine V_aload_n dX7_takesOver_83 rfl ?_
      refine VM_geta 26 dX7_takesOver_84 q2632 (by decide) rfl ?_
      refine V_iload_n dX7_takesOver_87 rfl ?_
      refine VM_ialdE 26 (((pCp (pCp g 4 25 i) 5 26 i)) 26 i) hB dX7_takesOver_88 mar26 rfl (by first | omega | (simp [gup, aup]; omega)) (by show _ < (6 : Int); first | omega | (simp [gup, aup]; omega)) (by decide) rfl ?_
      refine VM_iast 5 hB dX7_takesOver_89 mar5 rfl mfa5 (by first | omega | (simp [gup, aup]; omega)) (by show _ < (6 : Int); first | omega | (simp [gup, aup]; omega)) (by decide) ?_
      refine V_iinc dX7_takesOver_90 rfl (by decide) ?_
      refine V_goto 60 dX7_takesOver_93 (by decide) ?_
      exact V_st (cp_two h1) (ih (by omega))
  rw [pCp_0, pCp_0] at L
  exact L
theorem c_X7_takesOver (hB : MB am B) (hr_g : Rng g) (K : Q .null (mkM am B h0 (pTake g))) : V E mX7_takesOver 1 0 0 [some (.ref am), none] [] (mkM am B h0 g) Q X := by
  have hr1 : Rng (pTake1 g) := (((hr_g.up (hr_g _ _)).up (hr_g _ _)).up (hr_g _ _)).up (hr_g _ _)
  have hr2 := pCp_r hr1 0 21 72
  have hr3 := pCp_r (pCp_r hr2 4 25 6) 5 26 6
  have hr4 := pCp_r hr3 7 28 160
  refine V_aload_n dX7_takesOver_0 rfl ?_
  refine V_aload_n dX7_takesOver_1 rfl ?_
  refine VM_getiE 22 (g 22 0) dX7_takesOver_2 q2628 (by decide) rfl rfl ?_
  refine VM_puti 1 dX7_takesOver_5 q2607 (by decide) rfl rfl mfs1 mna1 ?_
  refine V_aload_n dX7_takesOver_8 rfl ?_
  refine V_aload_n dX7_takesOver_9 rfl ?_
  refine VM_getiE 23 (g 23 0) dX7_takesOver_10 q2629 (by decide) rfl rfl ?_
  refine VM_puti 2 dX7_takesOver_13 q2608 (by decide) rfl rfl mfs2 mna2 ?_
  refine V_aload_n dX7_takesOver_16 rfl ?_
  refine V_aload_n dX7_takesOver_17 rfl ?_
  refine VM_getiE 24 (g 24 0) dX7_takesOver_18 q2630 (by decide) rfl rfl ?_
  refine VM_puti 3 dX7_takesOver_21 q2609 (by decide) rfl rfl mfs3 mna3 ?_
  refine V_aload_n dX7_takesOver_24 rfl ?_
  refine V_aload_n dX7_takesOver_25 rfl ?_
  refine VM_getiE 27 (g 27 0) dX7_takesOver_26 q2633 (by decide) rfl rfl ?_
  refine VM_puti 6 dX7_takesOver_29 q2612 (by decide) rfl rfl mfs6 mna6 ?_
  refine V_iconst dX7_takesOver_32 ?_
  refine V_istore_n dX7_takesOver_33 (by decide) ?_
  refine c_take34 hB hr1 ?_; refine V_iconst dX7_takesOver_58 ?_; refine V_istore_n dX7_takesOver_59 (by decide) ?_; refine c_take60 hB hr2 ?_; refine V_iconst dX7_takesOver_96 ?_; refine V_istore_n dX7_takesOver_97 (by decide) ?_; refine c_take98 hB hr3 ?_; refine V_iconst dX7_takesOver_123 ?_; refine V_istore_n dX7_takesOver_124 (by decide) ?_; refine c_take125 hB hr4 ?_; exact V_vret dX7_takesOver_148 rfl K
end M9
