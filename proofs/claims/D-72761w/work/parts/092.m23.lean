/-! THE REFERENCE'S METHODS, part 23: what a node is at each time; edges -/
/-- what a node is, by the times -/
def LnO (g : MG) (n : Int) (L : Int → Int) : Prop := ∀ u, 0 ≤ u → u ≤ g 9 0 → L u = nAt g u n
def edP (L : Int → Int) (t k : Int) : Prop := 1 ≤ t ∧ L (t - 1) ≠ -7 ∧ L t ≠ -7 ∧ L t ≠ L (t - 1) ∧ (k = 0 ∨ (k = 1 ↔ L (t - 1) < L t))
/-- the same but for what is laid aside, and edges of a first node -/
def Sm4 (g g' : MG) : Prop := Sm g g' ∧ g' 42 = g 42
theorem Sm4.rfl' {g : MG} (h : Rng g) : Sm4 g g := ⟨Sm.rfl' h, rfl⟩
theorem Sm4.set {g g' : MG} (h : Sm4 g g') {k : Nat} {f : Int → Int} (hk : 16 ≤ k ∧ k ≤ 47) (hk4 : k ≠ 42) (hf : ∀ i, inr (f i)) : Sm4 g (gset g' k f) := ⟨h.1.set hk hf, by rw [gset_ne (by omega)]; exact h.2⟩
theorem Sm4.up {g g' : MG} (h : Sm4 g g') {k : Nat} {i v : Int} (hk : 16 ≤ k ∧ k ≤ 47) (hk4 : k ≠ 42) (hv : inr v) : Sm4 g (gup g' k i v) := ⟨h.1.up hk hv, by rw [gup_ne (by omega)]; exact h.2⟩
section M23
variable {E : Ev} {am : Nat} {B : Nat → Nat} {h0 h : AH} {g : MG} {Q : Value → AH → Prop} {X : Nat → AH → Prop}
theorem c_ll6 (hB : MB am B) {n : Int} (hn : 0 ≤ n ∧ n < g 1 0) (hb : BI g) {c : Int} (hw : WI c (g 9)) {T : Int → Int} (hT : TO T (isT (g 9))) (K : ∀ g', Sm4 g g' → LnO g n (g' 40) → Q .null (mkM am B h0 g')) : ∀ (m : Nat) (t : Int), t + m = g 9 0 + 1 → 0 ≤ t → ∀ g', Sm4 g g' → g' 39 = T → (∀ u, 0 ≤ u → u < t → g' 40 u = nAt g u n) → (0 < t → ∀ j, 0 ≤ j → j < g 1 0 → g' 36 j = nAt g (t - 1) j) → V E mX7_laysLine 5 0 6 [some (.ref am), some (vI n), some (vI t)] [] (mkM am B h0 g') Q X := by
  have hb1 := hb.1
  have w0 := hw.1
  intro m
  induction m with
  | zero =>
    intro t ht h1 g' hs h39 h40 h36
    have hr_g' := hs.1.2
    have e9 : g' 9 = g 9 := hs.1.1 9 (by omega)
    have e90 : g' 9 0 = g 9 0 := by rw [e9]
    refine V_iload_n dX7_laysLine_6 rfl ?_
    refine V_aload_n dX7_laysLine_7 rfl ?_
    refine VM_geta 9 dX7_laysLine_8 q2615 (by decide) rfl ?_
    refine V_iconst dX7_laysLine_11 ?_
    refine VM_ialdE 9 (g' 9 0) hB dX7_laysLine_12 mar9 rfl (by first | omega | (simp [gup, aup]; omega)) (by show _ < (209 : Int); first | omega | (simp [gup, aup]; omega)) (by decide) rfl ?_
    refine V_icmp_gt 48 dX7_laysLine_13 (by decide) (by first | omega | exact hr_g' _ _ | decide) (by first | omega | exact hr_g' _ _ | decide) (fun c_13 => ?_) (fun c_13 => by exfalso; omega)
    exact V_vret dX7_laysLine_48 rfl (by exact K g' hs (fun u u1 u2 => h40 u u1 (by omega)))
  | succ m ih =>
    intro t ht h1 g' hs h39 h40 h36
    have hr_g' := hs.1.2
    have e9 : g' 9 = g 9 := hs.1.1 9 (by omega)
    have e90 : g' 9 0 = g 9 0 := by rw [e9]
    have hTt := hT.2 t h1 (by omega)
    have e39 : g' 39 t = T t := by rw [h39]
    have L30 : ∀ g2, Sm4 g g2 → g2 39 = T → (∀ u, 0 ≤ u → u < t → g2 40 u = nAt g u n) → (∀ j, 0 ≤ j → j < g 1 0 → g2 36 j = nAt g t j) → V E mX7_laysLine 5 0 30 [some (.ref am), some (vI n), some (vI t)] [] (mkM am B h0 g2) Q X := by
      intro g2 hs2 q39 q40 q36
      have hr_g2 := hs2.1.2
      refine V_aload_n dX7_laysLine_30 rfl ?_
      refine VM_geta 40 dX7_laysLine_31 q2646 (by decide) rfl ?_
      refine V_iload_n dX7_laysLine_34 rfl ?_
      refine V_aload_n dX7_laysLine_35 rfl ?_
      refine VM_geta 36 dX7_laysLine_36 q2642 (by decide) rfl ?_
      refine V_iload_n dX7_laysLine_39 rfl ?_
      refine VM_ialdE 36 (g2 36 n) hB dX7_laysLine_40 mar36 rfl (by first | omega | (simp [gup, aup]; omega)) (by show _ < (12 : Int); first | omega | (simp [gup, aup]; omega)) (by decide) rfl ?_
      refine VM_iast 40 hB dX7_laysLine_41 mar40 rfl mfa40 (by first | omega | (simp [gup, aup]; omega)) (by show _ < (1000 : Int); first | omega | (simp [gup, aup]; omega)) (by decide) ?_
      refine V_iinc dX7_laysLine_42 rfl (by decide) ?_
      refine V_goto 6 dX7_laysLine_45 (by decide) ?_
      refine ih (t + 1) (by omega) (by omega) _ (hs2.up (by omega) (by omega) (hr_g2 _ _)) (by rw [gup_ne (by omega)]; exact q39) (fun u u1 u2 => ?_) (fun _ j j1 j2 => by rw [gup_ne (by omega), show t + 1 - 1 = t by omega]; exact q36 j j1 j2); rw [gup_k]; by_cases c1 : u = t; (subst c1; rw [aup_eq]; exact q36 n hn.1 hn.2); (rw [aup_nn c1]; exact q40 u u1 (by omega))
    by_cases ct : T t = 1
    · refine V_iload_n dX7_laysLine_6 rfl ?_
      refine V_aload_n dX7_laysLine_7 rfl ?_
      refine VM_geta 9 dX7_laysLine_8 q2615 (by decide) rfl ?_
      refine V_iconst dX7_laysLine_11 ?_
      refine VM_ialdE 9 (g' 9 0) hB dX7_laysLine_12 mar9 rfl (by first | omega | (simp [gup, aup]; omega)) (by show _ < (209 : Int); first | omega | (simp [gup, aup]; omega)) (by decide) rfl ?_
      refine V_icmp_gt 48 dX7_laysLine_13 (by decide) (by first | omega | exact hr_g' _ _ | decide) (by first | omega | exact hr_g' _ _ | decide) (fun c_13 => by exfalso; omega) (fun c_13 => ?_)
      refine V_aload_n dX7_laysLine_16 rfl ?_
      refine VM_geta 39 dX7_laysLine_17 q2645 (by decide) rfl ?_
      refine V_iload_n dX7_laysLine_20 rfl ?_
      refine VM_zaldE 39 (g' 39 t) hB dX7_laysLine_21 mar39 rfl (by first | omega | (simp [gup, aup]; omega)) (by show _ < (1002 : Int); first | omega | (simp [gup, aup]; omega)) (by decide) rfl ?_
      refine V_if_eq 30 dX7_laysLine_22 (by decide) (by first | omega | exact hr_g' _ _ | decide) (fun c_22 => by exfalso; omega) (fun c_22 => ?_)
      refine V_aload_n dX7_laysLine_25 rfl ?_
      refine V_iload_n dX7_laysLine_26 rfl ?_
      refine VM_v1 (M' := mX7_laysAt) okX7_laysAt rfl dX7_laysLine_27 q2935 rfl rfl (Nat.le_of_ble_eq_true rfl) (d' := 4) (b1 := 0) (by decide) (by decide) (c_X7_laysAt hB hr_g' (by first | omega | exact hr_g' _ _ | decide) (hb.same (fun k hk => hs.1.1 k (by omega))) (c := c) (by rw [e9]; exact hw) (fun W F S q1 q2 q3 q4 => ?_))
      refine L30 _ (((hs.set (by omega) (by omega) q2).set (by omega) (by omega) q3).set (by omega) (by omega) q4) (by rw [s3_ne (by omega)]; exact h39) (fun u u1 u2 => by rw [s3_ne (by omega)]; exact h40 u u1 u2) (fun j j1 j2 => ?_); have e1 : g' 1 = g 1 := hs.1.1 1 (by omega); have q5 := q1 j j1 (by rw [e1]; exact j2); unfold nAt at q5 ⊢; rw [e9, nv_same hb (fun k hk => hs.1.1 k (by omega)) j1 j2] at q5; exact q5
    · have nT : ¬ isT (g 9) t := fun z => ct (hTt.2.2 z)
      have ht0 : 0 < t := by
        by_cases c0 : t = 0
        · exact absurd (Or.inl c0) nT
        · omega
      have e := wvAt_s hw nT
      refine V_iload_n dX7_laysLine_6 rfl ?_
      refine V_aload_n dX7_laysLine_7 rfl ?_
      refine VM_geta 9 dX7_laysLine_8 q2615 (by decide) rfl ?_
      refine V_iconst dX7_laysLine_11 ?_
      refine VM_ialdE 9 (g' 9 0) hB dX7_laysLine_12 mar9 rfl (by first | omega | (simp [gup, aup]; omega)) (by show _ < (209 : Int); first | omega | (simp [gup, aup]; omega)) (by decide) rfl ?_
      refine V_icmp_gt 48 dX7_laysLine_13 (by decide) (by first | omega | exact hr_g' _ _ | decide) (by first | omega | exact hr_g' _ _ | decide) (fun c_13 => by exfalso; omega) (fun c_13 => ?_)
      refine V_aload_n dX7_laysLine_16 rfl ?_
      refine VM_geta 39 dX7_laysLine_17 q2645 (by decide) rfl ?_
      refine V_iload_n dX7_laysLine_20 rfl ?_
      refine VM_zaldE 39 (g' 39 t) hB dX7_laysLine_21 mar39 rfl (by first | omega | (simp [gup, aup]; omega)) (by show _ < (1002 : Int); first | omega | (simp [gup, aup]; omega)) (by decide) rfl ?_
      refine V_if_eq 30 dX7_laysLine_22 (by decide) (by first | omega | exact hr_g' _ _ | decide) (fun c_22 => ?_) (fun c_22 => by exfalso; omega)
      exact L30 _ hs h39 h40 (fun j j1 j2 => by rw [h36 ht0 j j1 j2]; unfold nAt; rw [e])
theorem c_X7_laysLine4 (hB : MB am B) (hr_g : Rng g) {n : Int} (hn : 0 ≤ n ∧ n < g 1 0) (hb : BI g) {c : Int} (hw : WI c (g 9)) (K : ∀ g', Sm4 g g' → LnO g n (g' 40) → Q .null (mkM am B h0 g')) : V E mX7_laysLine 5 0 0 [some (.ref am), some (vI n), none] [] (mkM am B h0 g) Q X := by
  have w0 := hw.1
  refine V_aload_n dX7_laysLine_0 rfl ?_
  refine VM_v0 (M' := mX7_laysTurns) okX7_laysTurns rfl dX7_laysLine_1 q2954 rfl rfl (Nat.le_of_ble_eq_true rfl) (d' := 2) (b1 := 0) (by decide) (by decide) (c_X7_laysTurns hB hr_g hw (fun T hT => ?_))
  refine V_iconst dX7_laysLine_4 ?_
  refine V_istore_n dX7_laysLine_5 (by decide) ?_
  exact (c_ll6 hB hn hb hw hT K (g 9 0 + 1).toNat 0 (by omega) (by omega) _ ((Sm4.rfl' hr_g).set (by omega) (by omega) hT.1) rfl (fun u u1 u2 => by omega) (fun z => by omega))
theorem c_X7_laysLine (hB : MB am B) (hr_g : Rng g) {n : Int} (hn : 0 ≤ n ∧ n < g 1 0) (hb : BI g) {c : Int} (hw : WI c (g 9)) (K : ∀ g', Sm g g' → LnO g n (g' 40) → Q .null (mkM am B h0 g')) : V E mX7_laysLine 5 0 0 [some (.ref am), some (vI n), none] [] (mkM am B h0 g) Q X :=
  c_X7_laysLine4 hB hr_g hn hb hw (fun g' hs hL => K g' hs.1 hL)
theorem c_X7_isEdge (hB : MB am B) (hr_g : Rng g) {t k : Int} (hk : inr k) (ht : t < 1000) (hti : inr t) (Kt : edP (g 40) t k → Q (vI 1) (mkM am B h0 g)) (Kf : ¬ edP (g 40) t k → Q (vI 0) (mkM am B h0 g)) : V E mX7_isEdge 1 0 0 [some (.ref am), some (vI t), some (vI k)] [] (mkM am B h0 g) Q X := by
  refine V_iload_n dX7_isEdge_0 rfl ?_
  refine V_iconst dX7_isEdge_1 ?_
  refine V_icmp_lt 46 dX7_isEdge_2 (by decide) (by first | omega | exact hr_g _ _ | decide) (by first | omega | exact hr_g _ _ | decide) (fun c_2 => ?_) (fun c_2 => ?_)
  · refine V_iconst dX7_isEdge_46 ?_
    exact V_zret dX7_isEdge_47 rfl (by first | decide | omega) (by first | exact Kf (fun z => by unfold edP at z; omega) | exact Kt (by unfold edP; omega))
  · refine V_aload_n dX7_isEdge_5 rfl ?_
    refine VM_geta 40 dX7_isEdge_6 q2646 (by decide) rfl ?_
    refine V_iload_n dX7_isEdge_9 rfl ?_
    refine V_iconst dX7_isEdge_10 ?_
    refine V_isub dX7_isEdge_11 ?_
    refine VM_ialdE 40 (g 40 (t - 1)) hB dX7_isEdge_12 mar40 rfl (by first | omega | (simp [gup, aup]; omega)) (by show _ < (1000 : Int); first | omega | (simp [gup, aup]; omega)) (by decide) rfl ?_
    refine V_bipush dX7_isEdge_13 (by decide) ?_
    refine V_icmp_eq 46 dX7_isEdge_15 (by decide) (by first | omega | exact hr_g _ _ | decide) (by first | omega | exact hr_g _ _ | decide) (fun c_15 => ?_) (fun c_15 => ?_)
    · refine V_iconst dX7_isEdge_46 ?_
      exact V_zret dX7_isEdge_47 rfl (by first | decide | omega) (by first | exact Kf (fun z => by unfold edP at z; omega) | exact Kt (by unfold edP; omega))
    · refine V_aload_n dX7_isEdge_18 rfl ?_
      refine VM_geta 40 dX7_isEdge_19 q2646 (by decide) rfl ?_
      refine V_iload_n dX7_isEdge_22 rfl ?_
      refine VM_ialdE 40 (g 40 t) hB dX7_isEdge_23 mar40 rfl (by first | omega | (simp [gup, aup]; omega)) (by show _ < (1000 : Int); first | omega | (simp [gup, aup]; omega)) (by decide) rfl ?_
      refine V_bipush dX7_isEdge_24 (by decide) ?_
      refine V_icmp_eq 46 dX7_isEdge_26 (by decide) (by first | omega | exact hr_g _ _ | decide) (by first | omega | exact hr_g _ _ | decide) (fun c_26 => ?_) (fun c_26 => ?_)
      · refine V_iconst dX7_isEdge_46 ?_
        exact V_zret dX7_isEdge_47 rfl (by first | decide | omega) (by first | exact Kf (fun z => by unfold edP at z; omega) | exact Kt (by unfold edP; omega))
      · refine V_aload_n dX7_isEdge_29 rfl ?_
        refine VM_geta 40 dX7_isEdge_30 q2646 (by decide) rfl ?_
        refine V_iload_n dX7_isEdge_33 rfl ?_
        refine VM_ialdE 40 (g 40 t) hB dX7_isEdge_34 mar40 rfl (by first | omega | (simp [gup, aup]; omega)) (by show _ < (1000 : Int); first | omega | (simp [gup, aup]; omega)) (by decide) rfl ?_
        refine V_aload_n dX7_isEdge_35 rfl ?_
        refine VM_geta 40 dX7_isEdge_36 q2646 (by decide) rfl ?_
        refine V_iload_n dX7_isEdge_39 rfl ?_
        refine V_iconst dX7_isEdge_40 ?_
        refine V_isub dX7_isEdge_41 ?_
        refine VM_ialdE 40 (g 40 (t - 1)) hB dX7_isEdge_42 mar40 rfl (by first | omega | (simp [gup, aup]; omega)) (by show _ < (1000 : Int); first | omega | (simp [gup, aup]; omega)) (by decide) rfl ?_
        refine V_icmp_ne 48 dX7_isEdge_43 (by decide) (by first | omega | exact hr_g _ _ | decide) (by first | omega | exact hr_g _ _ | decide) (fun c_43 => ?_) (fun c_43 => ?_)
        · refine V_iload_n dX7_isEdge_48 rfl ?_
          refine V_if_eq 87 dX7_isEdge_49 (by decide) (by first | omega | exact hr_g _ _ | decide) (fun c_49 => ?_) (fun c_49 => ?_)
          · refine V_iconst dX7_isEdge_87 ?_
            refine V_goto 92 dX7_isEdge_88 (by decide) ?_
            exact V_zret dX7_isEdge_92 rfl (by first | decide | omega) (by first | exact Kf (fun z => by unfold edP at z; omega) | exact Kt (by unfold edP; omega))
          · refine V_iload_n dX7_isEdge_52 rfl ?_
            refine V_iconst dX7_isEdge_53 ?_
            refine V_icmp_ne 61 dX7_isEdge_54 (by decide) (by first | omega | exact hr_g _ _ | decide) (by first | omega | exact hr_g _ _ | decide) (fun c_54 => ?_) (fun c_54 => ?_)
            · refine V_iconst dX7_isEdge_61 ?_
              refine V_aload_n dX7_isEdge_62 rfl ?_
              refine VM_geta 40 dX7_isEdge_63 q2646 (by decide) rfl ?_
              refine V_iload_n dX7_isEdge_66 rfl ?_
              refine VM_ialdE 40 (g 40 t) hB dX7_isEdge_67 mar40 rfl (by first | omega | (simp [gup, aup]; omega)) (by show _ < (1000 : Int); first | omega | (simp [gup, aup]; omega)) (by decide) rfl ?_
              refine V_aload_n dX7_isEdge_68 rfl ?_
              refine VM_geta 40 dX7_isEdge_69 q2646 (by decide) rfl ?_
              refine V_iload_n dX7_isEdge_72 rfl ?_
              refine V_iconst dX7_isEdge_73 ?_
              refine V_isub dX7_isEdge_74 ?_
              refine VM_ialdE 40 (g 40 (t - 1)) hB dX7_isEdge_75 mar40 rfl (by first | omega | (simp [gup, aup]; omega)) (by show _ < (1000 : Int); first | omega | (simp [gup, aup]; omega)) (by decide) rfl ?_
              refine V_icmp_le 83 dX7_isEdge_76 (by decide) (by first | omega | exact hr_g _ _ | decide) (by first | omega | exact hr_g _ _ | decide) (fun c_76 => ?_) (fun c_76 => ?_)
              · refine V_iconst dX7_isEdge_83 ?_
                refine V_icmp_ne 91 dX7_isEdge_84 (by decide) (by first | omega | exact hr_g _ _ | decide) (by first | omega | exact hr_g _ _ | decide) (fun c_84 => absurd c_84 (by decide)) (fun c_84 => ?_)
                refine V_iconst dX7_isEdge_87 ?_
                refine V_goto 92 dX7_isEdge_88 (by decide) ?_
                exact V_zret dX7_isEdge_92 rfl (by first | decide | omega) (by first | exact Kf (fun z => by unfold edP at z; omega) | exact Kt (by unfold edP; omega))
              · refine V_iconst dX7_isEdge_79 ?_
                refine V_goto 84 dX7_isEdge_80 (by decide) ?_
                refine V_icmp_ne 91 dX7_isEdge_84 (by decide) (by first | omega | exact hr_g _ _ | decide) (by first | omega | exact hr_g _ _ | decide) (fun c_84 => ?_) (fun c_84 => absurd c_84 (by decide))
                refine V_iconst dX7_isEdge_91 ?_
                exact V_zret dX7_isEdge_92 rfl (by first | decide | omega) (by first | exact Kf (fun z => by unfold edP at z; omega) | exact Kt (by unfold edP; omega))
            · refine V_iconst dX7_isEdge_57 ?_
              refine V_goto 62 dX7_isEdge_58 (by decide) ?_
              refine V_aload_n dX7_isEdge_62 rfl ?_
              refine VM_geta 40 dX7_isEdge_63 q2646 (by decide) rfl ?_
              refine V_iload_n dX7_isEdge_66 rfl ?_
              refine VM_ialdE 40 (g 40 t) hB dX7_isEdge_67 mar40 rfl (by first | omega | (simp [gup, aup]; omega)) (by show _ < (1000 : Int); first | omega | (simp [gup, aup]; omega)) (by decide) rfl ?_
              refine V_aload_n dX7_isEdge_68 rfl ?_
              refine VM_geta 40 dX7_isEdge_69 q2646 (by decide) rfl ?_
              refine V_iload_n dX7_isEdge_72 rfl ?_
              refine V_iconst dX7_isEdge_73 ?_
              refine V_isub dX7_isEdge_74 ?_
              refine VM_ialdE 40 (g 40 (t - 1)) hB dX7_isEdge_75 mar40 rfl (by first | omega | (simp [gup, aup]; omega)) (by show _ < (1000 : Int); first | omega | (simp [gup, aup]; omega)) (by decide) rfl ?_
              refine V_icmp_le 83 dX7_isEdge_76 (by decide) (by first | omega | exact hr_g _ _ | decide) (by first | omega | exact hr_g _ _ | decide) (fun c_76 => ?_) (fun c_76 => ?_)
              · refine V_iconst dX7_isEdge_83 ?_
                refine V_icmp_ne 91 dX7_isEdge_84 (by decide) (by first | omega | exact hr_g _ _ | decide) (by first | omega | exact hr_g _ _ | decide) (fun c_84 => ?_) (fun c_84 => absurd c_84 (by decide))
                refine V_iconst dX7_isEdge_91 ?_
                exact V_zret dX7_isEdge_92 rfl (by first | decide | omega) (by first | exact Kf (fun z => by unfold edP at z; omega) | exact Kt (by unfold edP; omega))
              · refine V_iconst dX7_isEdge_79 ?_
                refine V_goto 84 dX7_isEdge_80 (by decide) ?_
                refine V_icmp_ne 91 dX7_isEdge_84 (by decide) (by first | omega | exact hr_g _ _ | decide) (by first | omega | exact hr_g _ _ | decide) (fun c_84 => absurd c_84 (by decide)) (fun c_84 => ?_)
                refine V_iconst dX7_isEdge_87 ?_
                refine V_goto 92 dX7_isEdge_88 (by decide) ?_
                exact V_zret dX7_isEdge_92 rfl (by first | decide | omega) (by first | exact Kf (fun z => by unfold edP at z; omega) | exact Kt (by unfold edP; omega))
        · refine V_iconst dX7_isEdge_46 ?_
          exact V_zret dX7_isEdge_47 rfl (by first | decide | omega) (by first | exact Kf (fun z => by unfold edP at z; omega) | exact Kt (by unfold edP; omega))
theorem edP_c {L L' : Int → Int} {t k T : Int} (h : ∀ u, 0 ≤ u → u ≤ T → L u = L' u) (ht : t ≤ T) : edP L t k ↔ edP L' t k := by
  unfold edP
  by_cases c : 1 ≤ t
  · rw [h t (by omega) ht, h (t - 1) (by omega) (by omega)]
  · constructor <;> (intro z; exact absurd z.1 c)
end M23
/-- how many of n times from a on -/
noncomputable def cntP (p : Int → Prop) (a : Int) : Nat → Int
  | 0 => 0
  | n + 1 => cntP p a n + pIf (p (a + n)) 1 0
noncomputable def fstP (p : Int → Prop) : Nat → Int → Int
  | 0, _ => -9
  | n + 1, a => pIf (p a) a (fstP p n (a + 1))
/-- the last of 1 .. n -/
noncomputable def prvP (p : Int → Prop) : Nat → Int
  | 0 => -9
  | n + 1 => pIf (p ((n : Int) + 1)) ((n : Int) + 1) (prvP p n)
def hldN (L : Int → Int) (m : Int) : Nat → Int → Int → Int
  | 0, _, _ => -9
  | n + 1, e, many => if (if L e = -7 ∨ L e = 0 then 0 else many + 1) = m then e - m + 1 else hldN L m n (e + 1) (if L e = -7 ∨ L e = 0 then 0 else many + 1)
theorem cntP_in {p : Int → Prop} {a : Int} : ∀ n : Nat, 0 ≤ cntP p a n ∧ cntP p a n ≤ n := by
  intro n
  induction n with
  | zero => unfold cntP; omega
  | succ n ih =>
    unfold cntP pIf
    split <;> omega
noncomputable def aEdges (g : MG) (n k f t : Int) : Int := pIf ((0 ≤ n ∧ n < g 1 0) ∧ (0 ≤ k ∧ k ≤ 2) ∧ (0 ≤ f ∧ f ≤ g 9 0) ∧ (f ≤ t ∧ t ≤ g 9 0)) (cntP (fun e => edP (fun u => nAt g u n) e k) f (t - f + 1).toNat) (-1)
noncomputable def aNext (g : MG) (n k t : Int) : Int := pIf ((0 ≤ n ∧ n < g 1 0) ∧ (0 ≤ k ∧ k ≤ 2) ∧ (0 ≤ t ∧ t ≤ g 9 0)) (fstP (fun e => edP (fun u => nAt g u n) e k) (g 9 0 - t).toNat (t + 1)) (-1)
noncomputable def aPrev (g : MG) (n k t : Int) : Int := pIf ((0 ≤ n ∧ n < g 1 0) ∧ (0 ≤ k ∧ k ≤ 2) ∧ (0 ≤ t ∧ t ≤ g 9 0)) (prvP (fun e => edP (fun u => nAt g u n) e k) (t - 1).toNat) (-1)
noncomputable def aFirst (g : MG) (n v t : Int) : Int := pIf ((0 ≤ n ∧ n < g 1 0) ∧ ((0 ≤ v ∧ v ≤ 255) ∨ v = -7) ∧ (0 ≤ t ∧ t ≤ g 9 0)) (fstP (fun e => nAt g e n = v) (g 9 0 - t + 1).toNat t) (-1)
noncomputable def aHolds (g : MG) (n m t : Int) : Int := pIf ((0 ≤ n ∧ n < g 1 0) ∧ (1 ≤ m ∧ m ≤ 999) ∧ (0 ≤ t ∧ t ≤ g 9 0)) (hldN (fun u => nAt g u n) m (g 9 0 - t + 1).toNat t 0) (-1)
section M23b
variable {E : Ev} {am : Nat} {B : Nat → Nat} {h0 h : AH} {g : MG} {Q : Value → AH → Prop} {X : Nat → AH → Prop}
theorem c_X7_edges (hB : MB am B) (hr_g : Rng g) {n k f t : Int} (hn : inr n) (hk : inr k) (hf : inr f) (ht : inr t) (hb : BI g) {c : Int} (hw : WI c (g 9)) (K : ∀ g', Sm g g' → Q (vI (aEdges g n k f t)) (mkM am B h0 g')) : V E mX7_edges 6 0 0 [some (.ref am), some (vI n), some (vI k), some (vI f), some (vI t), none, none] [] (mkM am B h0 g) Q X := by
  have hb1 := hb.1
  have w0 := hw.1
  unfold aEdges at K
  by_cases cc : (0 ≤ n ∧ n < g 1 0) ∧ (0 ≤ k ∧ k ≤ 2) ∧ (0 ≤ f ∧ f ≤ g 9 0) ∧ (f ≤ t ∧ t ≤ g 9 0)
  · rw [pIf_t cc] at K
    have L : ∀ g', Sm g g' → LnO g n (g' 40) → V E mX7_edges 6 0 51 [some (.ref am), some (vI n), some (vI k), some (vI f), some (vI t), some (vI 0), some (vI f)] [] (mkM am B h0 g') Q X := by
      intro g' hs hL
      have hr_g' := hs.2
      have K := K g' hs
      have e0 : V E mX7_edges 6 0 51 [some (.ref am), some (vI n), some (vI k), some (vI f), some (vI t), some (vI (cntP (fun e => edP (fun u => nAt g u n) e k) f (f - f).toNat)), some (vI f)] [] (mkM am B h0 g') Q X := by
        refine loop_upI (P := fun i => V E mX7_edges 6 0 51 [some (.ref am), some (vI n), some (vI k), some (vI f), some (vI t), some (vI (cntP (fun e => edP (fun u => nAt g u n) e k) f (i - f).toNat)), some (vI i)] [] (mkM am B h0 g') Q X) f (t + 1) (fun i h1 h2 ih => ?_) (by omega)
        by_cases hi : i = t + 1
        · subst hi
          refine V_iload dX7_edges_51 rfl ?_
          refine V_iload dX7_edges_53 rfl ?_
          refine V_icmp_gt 84 dX7_edges_55 (by decide) (by first | omega | exact hr_g _ _ | decide) (by first | omega | exact hr_g _ _ | decide) (fun c_55 => ?_) (fun c_55 => by exfalso; omega)
          refine V_iload dX7_edges_84 rfl ?_
          exact V_iret dX7_edges_86 rfl (by rw [show t + 1 - f = t - f + 1 by omega]; exact K)
        · have ih := ih (by omega)
          rw [show (i + 1 - f).toNat = (i - f).toNat + 1 by omega] at ih
          unfold cntP at ih
          rw [show f + (((i - f).toNat : Nat) : Int) = i by omega] at ih
          have hc := edP_c (k := k) (t := i) hL (by omega)
          have hcn := cntP_in (p := fun e => edP (fun u => nAt g u n) e k) (a := f) (i - f).toNat
          generalize cntP (fun e => edP (fun u => nAt g u n) e k) f (i - f).toNat = z at *
          by_cases ce : edP (fun u => nAt g u n) i k
          · rw [pIf_t ce] at ih
            refine V_iload dX7_edges_51 rfl ?_
            refine V_iload dX7_edges_53 rfl ?_
            refine V_icmp_gt 84 dX7_edges_55 (by decide) (by first | omega | exact hr_g _ _ | decide) (by first | omega | exact hr_g _ _ | decide) (fun c_55 => by exfalso; omega) (fun c_55 => ?_)
            refine V_iload dX7_edges_58 rfl ?_
            refine V_aload_n dX7_edges_60 rfl ?_
            refine V_iload dX7_edges_61 rfl ?_
            refine V_iload_n dX7_edges_63 rfl ?_
            refine VM_c2 (M' := mX7_isEdge) okX7_isEdge rfl dX7_edges_64 q2958 rfl rfl (Nat.le_of_ble_eq_true rfl) (d' := 1) (b1 := 0) (by decide) (by decide) (c_X7_isEdge hB hr_g' (by first | omega | exact hr_g _ _ | decide) (by first | omega | (simp [gup, aup]; omega)) (by first | omega | exact hr_g _ _ | decide) (fun _ => ?_) (fun q => absurd (hc.2 ce) q))
            refine V_if_eq 74 dX7_edges_67 (by decide) (by first | omega | exact hr_g _ _ | decide) (fun c_67 => absurd c_67 (by decide)) (fun c_67 => ?_)
            refine V_iconst dX7_edges_70 ?_
            refine V_goto 75 dX7_edges_71 (by decide) ?_
            refine V_iadd dX7_edges_75 ?_
            refine V_istore dX7_edges_76 (by decide) ?_
            refine V_iinc dX7_edges_78 rfl (by decide) ?_
            refine V_goto 51 dX7_edges_81 (by decide) ?_
            exact ih
          · rw [pIf_f ce] at ih
            refine V_iload dX7_edges_51 rfl ?_
            refine V_iload dX7_edges_53 rfl ?_
            refine V_icmp_gt 84 dX7_edges_55 (by decide) (by first | omega | exact hr_g _ _ | decide) (by first | omega | exact hr_g _ _ | decide) (fun c_55 => by exfalso; omega) (fun c_55 => ?_)
            refine V_iload dX7_edges_58 rfl ?_
            refine V_aload_n dX7_edges_60 rfl ?_
            refine V_iload dX7_edges_61 rfl ?_
            refine V_iload_n dX7_edges_63 rfl ?_
            refine VM_c2 (M' := mX7_isEdge) okX7_isEdge rfl dX7_edges_64 q2958 rfl rfl (Nat.le_of_ble_eq_true rfl) (d' := 1) (b1 := 0) (by decide) (by decide) (c_X7_isEdge hB hr_g' (by first | omega | exact hr_g _ _ | decide) (by first | omega | (simp [gup, aup]; omega)) (by first | omega | exact hr_g _ _ | decide) (fun q => absurd (hc.1 q) ce) (fun _ => ?_))
            refine V_if_eq 74 dX7_edges_67 (by decide) (by first | omega | exact hr_g _ _ | decide) (fun c_67 => ?_) (fun c_67 => absurd c_67 (by decide))
            refine V_iconst dX7_edges_74 ?_
            refine V_iadd dX7_edges_75 ?_
            refine V_istore dX7_edges_76 (by decide) ?_
            refine V_iinc dX7_edges_78 rfl (by decide) ?_
            refine V_goto 51 dX7_edges_81 (by decide) ?_
            exact ih
      rw [show (f - f).toNat = 0 by omega] at e0
      exact e0
    refine V_aload_n dX7_edges_0 rfl ?_
    refine V_iload_n dX7_edges_1 rfl ?_
    refine VM_c1 (M' := mX7_isNode) okX7_isNode rfl dX7_edges_2 q2872 rfl rfl (Nat.le_of_ble_eq_true rfl) (d' := 2) (b1 := 0) (by decide) (by decide) (c_X7_isNode hB hr_g (by first | omega | exact hr_g _ _ | decide) (by first | omega | (simp [gup, aup]; omega)) (fun c_2 => ?_) (fun c_2 => ?_))
    · refine V_if_eq 38 dX7_edges_5 (by decide) (by first | omega | exact hr_g _ _ | decide) (fun c_5 => absurd c_5 (by decide)) (fun c_5 => ?_)
      refine V_iload_n dX7_edges_8 rfl ?_
      refine VS_c1 (M' := mX7_isKind) okX7_isKind dX7_edges_9 q2947 rfl rfl (Nat.le_of_ble_eq_true rfl) (d' := 2) (b1 := 0) (by decide) (by decide) (c_X7_isKind (by first | omega | exact hr_g _ _ | decide) (fun c_9 => ?_) (fun c_9 => ?_))
      · refine V_if_eq 38 dX7_edges_12 (by decide) (by first | omega | exact hr_g _ _ | decide) (fun c_12 => absurd c_12 (by decide)) (fun c_12 => ?_)
        refine V_aload_n dX7_edges_15 rfl ?_
        refine V_iload_n dX7_edges_16 rfl ?_
        refine VM_c1 (M' := mX7_isTime) okX7_isTime rfl dX7_edges_17 q2931 rfl rfl (Nat.le_of_ble_eq_true rfl) (d' := 2) (b1 := 0) (by decide) (by decide) (c_X7_isTime hB hr_g (by first | omega | exact hr_g _ _ | decide) (fun c_17 => ?_) (fun c_17 => ?_))
        · refine V_if_eq 38 dX7_edges_20 (by decide) (by first | omega | exact hr_g _ _ | decide) (fun c_20 => absurd c_20 (by decide)) (fun c_20 => ?_)
          refine V_iload dX7_edges_23 rfl ?_
          refine V_iload_n dX7_edges_25 rfl ?_
          refine V_aload_n dX7_edges_26 rfl ?_
          refine VM_geta 9 dX7_edges_27 q2615 (by decide) rfl ?_
          refine V_iconst dX7_edges_30 ?_
          refine VM_ialdE 9 (g 9 0) hB dX7_edges_31 mar9 rfl (by first | omega | (simp [gup, aup]; omega)) (by show _ < (209 : Int); first | omega | (simp [gup, aup]; omega)) (by decide) rfl ?_
          refine VS_c3 (M' := mX7_in) okX7_in dX7_edges_32 q2762 rfl rfl (Nat.le_of_ble_eq_true rfl) (d' := 1) (b1 := 0) (by decide) (by decide) (c_X7_in (by first | omega | exact hr_g _ _ | decide) (by first | omega | exact hr_g _ _ | decide) (by first | omega | exact hr_g _ _ | decide) (fun c_32 => ?_) (fun c_32 => ?_))
          · refine V_if_ne 40 dX7_edges_35 (by decide) (by first | omega | exact hr_g _ _ | decide) (fun c_35 => ?_) (fun c_35 => absurd c_35 (by decide))
            refine V_aload_n dX7_edges_40 rfl ?_
            refine V_iload_n dX7_edges_41 rfl ?_
            refine VM_v1 (M' := mX7_laysLine) okX7_laysLine rfl dX7_edges_42 q2950 rfl rfl (Nat.le_of_ble_eq_true rfl) (d' := 5) (b1 := 0) (by decide) (by decide) (c_X7_laysLine hB hr_g cc.1 hb hw (fun g' hs hL => ?_))
            refine V_iconst dX7_edges_45 ?_
            refine V_istore dX7_edges_46 (by decide) ?_
            refine V_iload_n dX7_edges_48 rfl ?_
            refine V_istore dX7_edges_49 (by decide) ?_
            exact L g' hs hL
          · refine V_if_ne 40 dX7_edges_35 (by decide) (by first | omega | exact hr_g _ _ | decide) (fun c_35 => absurd c_35 (by decide)) (fun c_35 => ?_)
            exfalso; omega
        · refine V_if_eq 38 dX7_edges_20 (by decide) (by first | omega | exact hr_g _ _ | decide) (fun c_20 => ?_) (fun c_20 => absurd c_20 (by decide))
          exfalso; omega
      · refine V_if_eq 38 dX7_edges_12 (by decide) (by first | omega | exact hr_g _ _ | decide) (fun c_12 => ?_) (fun c_12 => absurd c_12 (by decide))
        exfalso; omega
    · refine V_if_eq 38 dX7_edges_5 (by decide) (by first | omega | exact hr_g _ _ | decide) (fun c_5 => ?_) (fun c_5 => absurd c_5 (by decide))
      exfalso; omega
  · rw [pIf_f cc] at K
    have K := K g (Sm.rfl' hr_g)
    refine V_aload_n dX7_edges_0 rfl ?_
    refine V_iload_n dX7_edges_1 rfl ?_
    refine VM_c1 (M' := mX7_isNode) okX7_isNode rfl dX7_edges_2 q2872 rfl rfl (Nat.le_of_ble_eq_true rfl) (d' := 2) (b1 := 0) (by decide) (by decide) (c_X7_isNode hB hr_g (by first | omega | exact hr_g _ _ | decide) (by first | omega | (simp [gup, aup]; omega)) (fun c_2 => ?_) (fun c_2 => ?_))
    · refine V_if_eq 38 dX7_edges_5 (by decide) (by first | omega | exact hr_g _ _ | decide) (fun c_5 => absurd c_5 (by decide)) (fun c_5 => ?_)
      refine V_iload_n dX7_edges_8 rfl ?_
      refine VS_c1 (M' := mX7_isKind) okX7_isKind dX7_edges_9 q2947 rfl rfl (Nat.le_of_ble_eq_true rfl) (d' := 2) (b1 := 0) (by decide) (by decide) (c_X7_isKind (by first | omega | exact hr_g _ _ | decide) (fun c_9 => ?_) (fun c_9 => ?_))
      · refine V_if_eq 38 dX7_edges_12 (by decide) (by first | omega | exact hr_g _ _ | decide) (fun c_12 => absurd c_12 (by decide)) (fun c_12 => ?_)
        refine V_aload_n dX7_edges_15 rfl ?_
        refine V_iload_n dX7_edges_16 rfl ?_
        refine VM_c1 (M' := mX7_isTime) okX7_isTime rfl dX7_edges_17 q2931 rfl rfl (Nat.le_of_ble_eq_true rfl) (d' := 2) (b1 := 0) (by decide) (by decide) (c_X7_isTime hB hr_g (by first | omega | exact hr_g _ _ | decide) (fun c_17 => ?_) (fun c_17 => ?_))
        · refine V_if_eq 38 dX7_edges_20 (by decide) (by first | omega | exact hr_g _ _ | decide) (fun c_20 => absurd c_20 (by decide)) (fun c_20 => ?_)
          refine V_iload dX7_edges_23 rfl ?_
          refine V_iload_n dX7_edges_25 rfl ?_
          refine V_aload_n dX7_edges_26 rfl ?_
          refine VM_geta 9 dX7_edges_27 q2615 (by decide) rfl ?_
          refine V_iconst dX7_edges_30 ?_
          refine VM_ialdE 9 (g 9 0) hB dX7_edges_31 mar9 rfl (by first | omega | (simp [gup, aup]; omega)) (by show _ < (209 : Int); first | omega | (simp [gup, aup]; omega)) (by decide) rfl ?_
          refine VS_c3 (M' := mX7_in) okX7_in dX7_edges_32 q2762 rfl rfl (Nat.le_of_ble_eq_true rfl) (d' := 1) (b1 := 0) (by decide) (by decide) (c_X7_in (by first | omega | exact hr_g _ _ | decide) (by first | omega | exact hr_g _ _ | decide) (by first | omega | exact hr_g _ _ | decide) (fun c_32 => ?_) (fun c_32 => ?_))
          · refine V_if_ne 40 dX7_edges_35 (by decide) (by first | omega | exact hr_g _ _ | decide) (fun c_35 => ?_) (fun c_35 => absurd c_35 (by decide))
            exfalso; omega
          · refine V_if_ne 40 dX7_edges_35 (by decide) (by first | omega | exact hr_g _ _ | decide) (fun c_35 => absurd c_35 (by decide)) (fun c_35 => ?_)
            refine V_iconst dX7_edges_38 ?_
            exact V_iret dX7_edges_39 rfl (by exact K)
        · refine V_if_eq 38 dX7_edges_20 (by decide) (by first | omega | exact hr_g _ _ | decide) (fun c_20 => ?_) (fun c_20 => absurd c_20 (by decide))
          refine V_iconst dX7_edges_38 ?_
          exact V_iret dX7_edges_39 rfl (by exact K)
      · refine V_if_eq 38 dX7_edges_12 (by decide) (by first | omega | exact hr_g _ _ | decide) (fun c_12 => ?_) (fun c_12 => absurd c_12 (by decide))
        refine V_iconst dX7_edges_38 ?_
        exact V_iret dX7_edges_39 rfl (by exact K)
    · refine V_if_eq 38 dX7_edges_5 (by decide) (by first | omega | exact hr_g _ _ | decide) (fun c_5 => ?_) (fun c_5 => absurd c_5 (by decide))
      refine V_iconst dX7_edges_38 ?_
      exact V_iret dX7_edges_39 rfl (by exact K)
theorem c_X7_next_2 (hB : MB am B) (hr_g : Rng g) {n k t : Int} (hn : inr n) (hk : inr k) (ht : inr t) (hb : BI g) {c : Int} (hw : WI c (g 9)) (K : ∀ g', Sm g g' → Q (vI (aNext g n k t)) (mkM am B h0 g')) : V E mX7_next_2 6 0 0 [some (.ref am), some (vI n), some (vI k), some (vI t), none] [] (mkM am B h0 g) Q X := by
  have hb1 := hb.1
  have w0 := hw.1
  unfold aNext at K
  by_cases cc : (0 ≤ n ∧ n < g 1 0) ∧ (0 ≤ k ∧ k ≤ 2) ∧ (0 ≤ t ∧ t ≤ g 9 0)
  · rw [pIf_t cc] at K
    have L : ∀ g', Sm g g' → LnO g n (g' 40) → V E mX7_next_2 6 0 35 [some (.ref am), some (vI n), some (vI k), some (vI t), some (vI (t + 1))] [] (mkM am B h0 g') Q X := by
      intro g' hs hL
      have hr_g' := hs.2
      have K := K g' hs
      have e9 : g' 9 = g 9 := hs.1 9 (by omega)
      have e90 : g' 9 0 = g 9 0 := by rw [e9]
      have e0 : ∀ (m : Nat) (i : Int), i + m = g 9 0 + 1 → t + 1 ≤ i → Q (vI (fstP (fun e => edP (fun u => nAt g u n) e k) m i)) (mkM am B h0 g') → V E mX7_next_2 6 0 35 [some (.ref am), some (vI n), some (vI k), some (vI t), some (vI i)] [] (mkM am B h0 g') Q X := by
        intro m
        induction m with
        | zero =>
          intro i h1 h2 hQ
          refine V_iload dX7_next_2_35 rfl ?_
          refine V_aload_n dX7_next_2_37 rfl ?_
          refine VM_geta 9 dX7_next_2_38 q2615 (by decide) rfl ?_
          refine V_iconst dX7_next_2_41 ?_
          refine VM_ialdE 9 (g' 9 0) hB dX7_next_2_42 mar9 rfl (by first | omega | (simp [gup, aup]; omega)) (by show _ < (209 : Int); first | omega | (simp [gup, aup]; omega)) (by decide) rfl ?_
          refine V_icmp_gt 65 dX7_next_2_43 (by decide) (by first | omega | exact hr_g' _ _ | decide) (by first | omega | exact hr_g' _ _ | decide) (fun c_43 => ?_) (fun c_43 => by exfalso; omega)
          refine V_bipush dX7_next_2_65 (by decide) ?_
          exact V_iret dX7_next_2_67 rfl (by exact hQ)
        | succ m ih =>
          intro i h1 h2 hQ
          have hc := edP_c (k := k) (t := i) hL (by omega)
          unfold fstP at hQ
          by_cases ce : edP (fun u => nAt g u n) i k
          · rw [pIf_t ce] at hQ
            refine V_iload dX7_next_2_35 rfl ?_
            refine V_aload_n dX7_next_2_37 rfl ?_
            refine VM_geta 9 dX7_next_2_38 q2615 (by decide) rfl ?_
            refine V_iconst dX7_next_2_41 ?_
            refine VM_ialdE 9 (g' 9 0) hB dX7_next_2_42 mar9 rfl (by first | omega | (simp [gup, aup]; omega)) (by show _ < (209 : Int); first | omega | (simp [gup, aup]; omega)) (by decide) rfl ?_
            refine V_icmp_gt 65 dX7_next_2_43 (by decide) (by first | omega | exact hr_g' _ _ | decide) (by first | omega | exact hr_g' _ _ | decide) (fun c_43 => by exfalso; omega) (fun c_43 => ?_)
            refine V_aload_n dX7_next_2_46 rfl ?_
            refine V_iload dX7_next_2_47 rfl ?_
            refine V_iload_n dX7_next_2_49 rfl ?_
            refine VM_c2 (M' := mX7_isEdge) okX7_isEdge rfl dX7_next_2_50 q2958 rfl rfl (Nat.le_of_ble_eq_true rfl) (d' := 1) (b1 := 0) (by decide) (by decide) (c_X7_isEdge hB hr_g' (by first | omega | exact hr_g' _ _ | decide) (by first | omega | (simp [gup, aup]; omega)) (by first | omega | exact hr_g' _ _ | decide) (fun _ => ?_) (fun q => absurd (hc.2 ce) q))
            refine V_if_eq 59 dX7_next_2_53 (by decide) (by first | omega | exact hr_g' _ _ | decide) (fun c_53 => absurd c_53 (by decide)) (fun c_53 => ?_)
            refine V_iload dX7_next_2_56 rfl ?_
            exact V_iret dX7_next_2_58 rfl (by exact hQ)
          · rw [pIf_f ce] at hQ
            refine V_iload dX7_next_2_35 rfl ?_
            refine V_aload_n dX7_next_2_37 rfl ?_
            refine VM_geta 9 dX7_next_2_38 q2615 (by decide) rfl ?_
            refine V_iconst dX7_next_2_41 ?_
            refine VM_ialdE 9 (g' 9 0) hB dX7_next_2_42 mar9 rfl (by first | omega | (simp [gup, aup]; omega)) (by show _ < (209 : Int); first | omega | (simp [gup, aup]; omega)) (by decide) rfl ?_
            refine V_icmp_gt 65 dX7_next_2_43 (by decide) (by first | omega | exact hr_g' _ _ | decide) (by first | omega | exact hr_g' _ _ | decide) (fun c_43 => by exfalso; omega) (fun c_43 => ?_)
            refine V_aload_n dX7_next_2_46 rfl ?_
            refine V_iload dX7_next_2_47 rfl ?_
            refine V_iload_n dX7_next_2_49 rfl ?_
            refine VM_c2 (M' := mX7_isEdge) okX7_isEdge rfl dX7_next_2_50 q2958 rfl rfl (Nat.le_of_ble_eq_true rfl) (d' := 1) (b1 := 0) (by decide) (by decide) (c_X7_isEdge hB hr_g' (by first | omega | exact hr_g' _ _ | decide) (by first | omega | (simp [gup, aup]; omega)) (by first | omega | exact hr_g' _ _ | decide) (fun q => absurd (hc.1 q) ce) (fun _ => ?_))
            refine V_if_eq 59 dX7_next_2_53 (by decide) (by first | omega | exact hr_g' _ _ | decide) (fun c_53 => ?_) (fun c_53 => absurd c_53 (by decide))
            refine V_iinc dX7_next_2_59 rfl (by decide) ?_
            refine V_goto 35 dX7_next_2_62 (by decide) ?_
            exact ih (i + 1) (by omega) (by omega) hQ
      exact e0 (g 9 0 - t).toNat (t + 1) (by omega) (by omega) K
    refine V_aload_n dX7_next_2_0 rfl ?_
    refine V_iload_n dX7_next_2_1 rfl ?_
    refine VM_c1 (M' := mX7_isNode) okX7_isNode rfl dX7_next_2_2 q2872 rfl rfl (Nat.le_of_ble_eq_true rfl) (d' := 2) (b1 := 0) (by decide) (by decide) (c_X7_isNode hB hr_g (by first | omega | exact hr_g _ _ | decide) (by first | omega | (simp [gup, aup]; omega)) (fun c_2 => ?_) (fun c_2 => ?_))
    · refine V_if_eq 23 dX7_next_2_5 (by decide) (by first | omega | exact hr_g _ _ | decide) (fun c_5 => absurd c_5 (by decide)) (fun c_5 => ?_)
      refine V_iload_n dX7_next_2_8 rfl ?_
      refine VS_c1 (M' := mX7_isKind) okX7_isKind dX7_next_2_9 q2947 rfl rfl (Nat.le_of_ble_eq_true rfl) (d' := 2) (b1 := 0) (by decide) (by decide) (c_X7_isKind (by first | omega | exact hr_g _ _ | decide) (fun c_9 => ?_) (fun c_9 => ?_))
      · refine V_if_eq 23 dX7_next_2_12 (by decide) (by first | omega | exact hr_g _ _ | decide) (fun c_12 => absurd c_12 (by decide)) (fun c_12 => ?_)
        refine V_aload_n dX7_next_2_15 rfl ?_
        refine V_iload_n dX7_next_2_16 rfl ?_
        refine VM_c1 (M' := mX7_isTime) okX7_isTime rfl dX7_next_2_17 q2931 rfl rfl (Nat.le_of_ble_eq_true rfl) (d' := 2) (b1 := 0) (by decide) (by decide) (c_X7_isTime hB hr_g (by first | omega | exact hr_g _ _ | decide) (fun c_17 => ?_) (fun c_17 => ?_))
        · refine V_if_ne 25 dX7_next_2_20 (by decide) (by first | omega | exact hr_g _ _ | decide) (fun c_20 => ?_) (fun c_20 => absurd c_20 (by decide))
          refine V_aload_n dX7_next_2_25 rfl ?_
          refine V_iload_n dX7_next_2_26 rfl ?_
          refine VM_v1 (M' := mX7_laysLine) okX7_laysLine rfl dX7_next_2_27 q2950 rfl rfl (Nat.le_of_ble_eq_true rfl) (d' := 5) (b1 := 0) (by decide) (by decide) (c_X7_laysLine hB hr_g cc.1 hb hw (fun g' hs hL => ?_))
          refine V_iload_n dX7_next_2_30 rfl ?_
          refine V_iconst dX7_next_2_31 ?_
          refine V_iadd dX7_next_2_32 ?_
          refine V_istore dX7_next_2_33 (by decide) ?_
          exact L g' hs hL
        · refine V_if_ne 25 dX7_next_2_20 (by decide) (by first | omega | exact hr_g _ _ | decide) (fun c_20 => absurd c_20 (by decide)) (fun c_20 => ?_)
          exfalso; omega
      · refine V_if_eq 23 dX7_next_2_12 (by decide) (by first | omega | exact hr_g _ _ | decide) (fun c_12 => ?_) (fun c_12 => absurd c_12 (by decide))
        exfalso; omega
    · refine V_if_eq 23 dX7_next_2_5 (by decide) (by first | omega | exact hr_g _ _ | decide) (fun c_5 => ?_) (fun c_5 => absurd c_5 (by decide))
      exfalso; omega
  · rw [pIf_f cc] at K
    have K := K g (Sm.rfl' hr_g)
    refine V_aload_n dX7_next_2_0 rfl ?_
    refine V_iload_n dX7_next_2_1 rfl ?_
    refine VM_c1 (M' := mX7_isNode) okX7_isNode rfl dX7_next_2_2 q2872 rfl rfl (Nat.le_of_ble_eq_true rfl) (d' := 2) (b1 := 0) (by decide) (by decide) (c_X7_isNode hB hr_g (by first | omega | exact hr_g _ _ | decide) (by first | omega | (simp [gup, aup]; omega)) (fun c_2 => ?_) (fun c_2 => ?_))
    · refine V_if_eq 23 dX7_next_2_5 (by decide) (by first | omega | exact hr_g _ _ | decide) (fun c_5 => absurd c_5 (by decide)) (fun c_5 => ?_)
      refine V_iload_n dX7_next_2_8 rfl ?_
      refine VS_c1 (M' := mX7_isKind) okX7_isKind dX7_next_2_9 q2947 rfl rfl (Nat.le_of_ble_eq_true rfl) (d' := 2) (b1 := 0) (by decide) (by decide) (c_X7_isKind (by first | omega | exact hr_g _ _ | decide) (fun c_9 => ?_) (fun c_9 => ?_))
      · refine V_if_eq 23 dX7_next_2_12 (by decide) (by first | omega | exact hr_g _ _ | decide) (fun c_12 => absurd c_12 (by decide)) (fun c_12 => ?_)
        refine V_aload_n dX7_next_2_15 rfl ?_
        refine V_iload_n dX7_next_2_16 rfl ?_
        refine VM_c1 (M' := mX7_isTime) okX7_isTime rfl dX7_next_2_17 q2931 rfl rfl (Nat.le_of_ble_eq_true rfl) (d' := 2) (b1 := 0) (by decide) (by decide) (c_X7_isTime hB hr_g (by first | omega | exact hr_g _ _ | decide) (fun c_17 => ?_) (fun c_17 => ?_))
        · refine V_if_ne 25 dX7_next_2_20 (by decide) (by first | omega | exact hr_g _ _ | decide) (fun c_20 => ?_) (fun c_20 => absurd c_20 (by decide))
          exfalso; omega
        · refine V_if_ne 25 dX7_next_2_20 (by decide) (by first | omega | exact hr_g _ _ | decide) (fun c_20 => absurd c_20 (by decide)) (fun c_20 => ?_)
          refine V_iconst dX7_next_2_23 ?_
          exact V_iret dX7_next_2_24 rfl (by exact K)
      · refine V_if_eq 23 dX7_next_2_12 (by decide) (by first | omega | exact hr_g _ _ | decide) (fun c_12 => ?_) (fun c_12 => absurd c_12 (by decide))
        refine V_iconst dX7_next_2_23 ?_
        exact V_iret dX7_next_2_24 rfl (by exact K)
    · refine V_if_eq 23 dX7_next_2_5 (by decide) (by first | omega | exact hr_g _ _ | decide) (fun c_5 => ?_) (fun c_5 => absurd c_5 (by decide))
      refine V_iconst dX7_next_2_23 ?_
      exact V_iret dX7_next_2_24 rfl (by exact K)
theorem c_X7_previous (hB : MB am B) (hr_g : Rng g) {n k t : Int} (hn : inr n) (hk : inr k) (ht : inr t) (hb : BI g) {c : Int} (hw : WI c (g 9)) (K : ∀ g', Sm g g' → Q (vI (aPrev g n k t)) (mkM am B h0 g')) : V E mX7_previous 6 0 0 [some (.ref am), some (vI n), some (vI k), some (vI t), none] [] (mkM am B h0 g) Q X := by
  have hb1 := hb.1
  have w0 := hw.1
  unfold aPrev at K
  by_cases cc : (0 ≤ n ∧ n < g 1 0) ∧ (0 ≤ k ∧ k ≤ 2) ∧ (0 ≤ t ∧ t ≤ g 9 0)
  · rw [pIf_t cc] at K
    have L : ∀ g', Sm g g' → LnO g n (g' 40) → V E mX7_previous 6 0 35 [some (.ref am), some (vI n), some (vI k), some (vI t), some (vI (t - 1))] [] (mkM am B h0 g') Q X := by
      intro g' hs hL
      have hr_g' := hs.2
      have K := K g' hs
      have e0 : ∀ (m : Nat), (m : Int) ≤ 999 → m ≤ g 9 0 → Q (vI (prvP (fun e => edP (fun u => nAt g u n) e k) m)) (mkM am B h0 g') → V E mX7_previous 6 0 35 [some (.ref am), some (vI n), some (vI k), some (vI t), some (vI m)] [] (mkM am B h0 g') Q X := by
        intro m
        induction m with
        | zero =>
          intro h1 h2 hQ
          refine V_iload dX7_previous_35 rfl ?_
          refine V_if_le 59 dX7_previous_37 (by decide) (by first | omega | exact hr_g _ _ | decide) (fun c_37 => ?_) (fun c_37 => by exfalso; omega)
          refine V_bipush dX7_previous_59 (by decide) ?_
          exact V_iret dX7_previous_61 rfl (by exact hQ)
        | succ m ih =>
          intro h1 h2 hQ
          have hc := edP_c (k := k) (t := (m : Int) + 1) hL (by omega)
          unfold prvP at hQ
          rw [show (((m + 1 : Nat)) : Int) = (m : Int) + 1 by omega]
          by_cases ce : edP (fun u => nAt g u n) ((m : Int) + 1) k
          · rw [pIf_t ce] at hQ
            refine V_iload dX7_previous_35 rfl ?_
            refine V_if_le 59 dX7_previous_37 (by decide) (by first | omega | exact hr_g _ _ | decide) (fun c_37 => by exfalso; omega) (fun c_37 => ?_)
            refine V_aload_n dX7_previous_40 rfl ?_
            refine V_iload dX7_previous_41 rfl ?_
            refine V_iload_n dX7_previous_43 rfl ?_
            refine VM_c2 (M' := mX7_isEdge) okX7_isEdge rfl dX7_previous_44 q2958 rfl rfl (Nat.le_of_ble_eq_true rfl) (d' := 1) (b1 := 0) (by decide) (by decide) (c_X7_isEdge hB hr_g' (by first | omega | exact hr_g _ _ | decide) (by first | omega | (simp [gup, aup]; omega)) (by first | omega | exact hr_g _ _ | decide) (fun _ => ?_) (fun q => absurd (hc.2 ce) q))
            refine V_if_eq 53 dX7_previous_47 (by decide) (by first | omega | exact hr_g _ _ | decide) (fun c_47 => absurd c_47 (by decide)) (fun c_47 => ?_)
            refine V_iload dX7_previous_50 rfl ?_
            exact V_iret dX7_previous_52 rfl (by exact hQ)
          · rw [pIf_f ce] at hQ
            refine V_iload dX7_previous_35 rfl ?_
            refine V_if_le 59 dX7_previous_37 (by decide) (by first | omega | exact hr_g _ _ | decide) (fun c_37 => by exfalso; omega) (fun c_37 => ?_)
            refine V_aload_n dX7_previous_40 rfl ?_
            refine V_iload dX7_previous_41 rfl ?_
            refine V_iload_n dX7_previous_43 rfl ?_
            refine VM_c2 (M' := mX7_isEdge) okX7_isEdge rfl dX7_previous_44 q2958 rfl rfl (Nat.le_of_ble_eq_true rfl) (d' := 1) (b1 := 0) (by decide) (by decide) (c_X7_isEdge hB hr_g' (by first | omega | exact hr_g _ _ | decide) (by first | omega | (simp [gup, aup]; omega)) (by first | omega | exact hr_g _ _ | decide) (fun q => absurd (hc.1 q) ce) (fun _ => ?_))
            refine V_if_eq 53 dX7_previous_47 (by decide) (by first | omega | exact hr_g _ _ | decide) (fun c_47 => ?_) (fun c_47 => absurd c_47 (by decide))
            refine V_iinc dX7_previous_53 rfl (by decide) ?_
            refine V_goto 35 dX7_previous_56 (by decide) ?_
            rw [show (m : Int) + 1 + (-1) = m by omega]; exact ih (by omega) (by omega) hQ
      by_cases ct : t = 0
      · subst ct
        refine V_iload dX7_previous_35 rfl ?_
        refine V_if_le 59 dX7_previous_37 (by decide) (by first | omega | exact hr_g _ _ | decide) (fun c_37 => ?_) (fun c_37 => by exfalso; omega)
        refine V_bipush dX7_previous_59 (by decide) ?_
        exact V_iret dX7_previous_61 rfl (by exact K)
      · have := e0 (t - 1).toNat (by omega) (by omega) K
        rw [show (((t - 1).toNat : Nat) : Int) = t - 1 by omega] at this
        exact this
    refine V_aload_n dX7_previous_0 rfl ?_
    refine V_iload_n dX7_previous_1 rfl ?_
    refine VM_c1 (M' := mX7_isNode) okX7_isNode rfl dX7_previous_2 q2872 rfl rfl (Nat.le_of_ble_eq_true rfl) (d' := 2) (b1 := 0) (by decide) (by decide) (c_X7_isNode hB hr_g (by first | omega | exact hr_g _ _ | decide) (by first | omega | (simp [gup, aup]; omega)) (fun c_2 => ?_) (fun c_2 => ?_))
    · refine V_if_eq 23 dX7_previous_5 (by decide) (by first | omega | exact hr_g _ _ | decide) (fun c_5 => absurd c_5 (by decide)) (fun c_5 => ?_)
      refine V_iload_n dX7_previous_8 rfl ?_
      refine VS_c1 (M' := mX7_isKind) okX7_isKind dX7_previous_9 q2947 rfl rfl (Nat.le_of_ble_eq_true rfl) (d' := 2) (b1 := 0) (by decide) (by decide) (c_X7_isKind (by first | omega | exact hr_g _ _ | decide) (fun c_9 => ?_) (fun c_9 => ?_))
      · refine V_if_eq 23 dX7_previous_12 (by decide) (by first | omega | exact hr_g _ _ | decide) (fun c_12 => absurd c_12 (by decide)) (fun c_12 => ?_)
        refine V_aload_n dX7_previous_15 rfl ?_
        refine V_iload_n dX7_previous_16 rfl ?_
        refine VM_c1 (M' := mX7_isTime) okX7_isTime rfl dX7_previous_17 q2931 rfl rfl (Nat.le_of_ble_eq_true rfl) (d' := 2) (b1 := 0) (by decide) (by decide) (c_X7_isTime hB hr_g (by first | omega | exact hr_g _ _ | decide) (fun c_17 => ?_) (fun c_17 => ?_))
        · refine V_if_ne 25 dX7_previous_20 (by decide) (by first | omega | exact hr_g _ _ | decide) (fun c_20 => ?_) (fun c_20 => absurd c_20 (by decide))
          refine V_aload_n dX7_previous_25 rfl ?_
          refine V_iload_n dX7_previous_26 rfl ?_
          refine VM_v1 (M' := mX7_laysLine) okX7_laysLine rfl dX7_previous_27 q2950 rfl rfl (Nat.le_of_ble_eq_true rfl) (d' := 5) (b1 := 0) (by decide) (by decide) (c_X7_laysLine hB hr_g cc.1 hb hw (fun g' hs hL => ?_))
          refine V_iload_n dX7_previous_30 rfl ?_
          refine V_iconst dX7_previous_31 ?_
          refine V_isub dX7_previous_32 ?_
          refine V_istore dX7_previous_33 (by decide) ?_
          exact L g' hs hL
        · refine V_if_ne 25 dX7_previous_20 (by decide) (by first | omega | exact hr_g _ _ | decide) (fun c_20 => absurd c_20 (by decide)) (fun c_20 => ?_)
          exfalso; omega
      · refine V_if_eq 23 dX7_previous_12 (by decide) (by first | omega | exact hr_g _ _ | decide) (fun c_12 => ?_) (fun c_12 => absurd c_12 (by decide))
        exfalso; omega
    · refine V_if_eq 23 dX7_previous_5 (by decide) (by first | omega | exact hr_g _ _ | decide) (fun c_5 => ?_) (fun c_5 => absurd c_5 (by decide))
      exfalso; omega
  · rw [pIf_f cc] at K
    have K := K g (Sm.rfl' hr_g)
    refine V_aload_n dX7_previous_0 rfl ?_
    refine V_iload_n dX7_previous_1 rfl ?_
    refine VM_c1 (M' := mX7_isNode) okX7_isNode rfl dX7_previous_2 q2872 rfl rfl (Nat.le_of_ble_eq_true rfl) (d' := 2) (b1 := 0) (by decide) (by decide) (c_X7_isNode hB hr_g (by first | omega | exact hr_g _ _ | decide) (by first | omega | (simp [gup, aup]; omega)) (fun c_2 => ?_) (fun c_2 => ?_))
    · refine V_if_eq 23 dX7_previous_5 (by decide) (by first | omega | exact hr_g _ _ | decide) (fun c_5 => absurd c_5 (by decide)) (fun c_5 => ?_)
      refine V_iload_n dX7_previous_8 rfl ?_
      refine VS_c1 (M' := mX7_isKind) okX7_isKind dX7_previous_9 q2947 rfl rfl (Nat.le_of_ble_eq_true rfl) (d' := 2) (b1 := 0) (by decide) (by decide) (c_X7_isKind (by first | omega | exact hr_g _ _ | decide) (fun c_9 => ?_) (fun c_9 => ?_))
      · refine V_if_eq 23 dX7_previous_12 (by decide) (by first | omega | exact hr_g _ _ | decide) (fun c_12 => absurd c_12 (by decide)) (fun c_12 => ?_)
        refine V_aload_n dX7_previous_15 rfl ?_
        refine V_iload_n dX7_previous_16 rfl ?_
        refine VM_c1 (M' := mX7_isTime) okX7_isTime rfl dX7_previous_17 q2931 rfl rfl (Nat.le_of_ble_eq_true rfl) (d' := 2) (b1 := 0) (by decide) (by decide) (c_X7_isTime hB hr_g (by first | omega | exact hr_g _ _ | decide) (fun c_17 => ?_) (fun c_17 => ?_))
        · refine V_if_ne 25 dX7_previous_20 (by decide) (by first | omega | exact hr_g _ _ | decide) (fun c_20 => ?_) (fun c_20 => absurd c_20 (by decide))
          exfalso; omega
        · refine V_if_ne 25 dX7_previous_20 (by decide) (by first | omega | exact hr_g _ _ | decide) (fun c_20 => absurd c_20 (by decide)) (fun c_20 => ?_)
          refine V_iconst dX7_previous_23 ?_
          exact V_iret dX7_previous_24 rfl (by exact K)
      · refine V_if_eq 23 dX7_previous_12 (by decide) (by first | omega | exact hr_g _ _ | decide) (fun c_12 => ?_) (fun c_12 => absurd c_12 (by decide))
        refine V_iconst dX7_previous_23 ?_
        exact V_iret dX7_previous_24 rfl (by exact K)
    · refine V_if_eq 23 dX7_previous_5 (by decide) (by first | omega | exact hr_g _ _ | decide) (fun c_5 => ?_) (fun c_5 => absurd c_5 (by decide))
      refine V_iconst dX7_previous_23 ?_
      exact V_iret dX7_previous_24 rfl (by exact K)
theorem c_X7_first (hB : MB am B) (hr_g : Rng g) {n v t : Int} (hn : inr n) (hv : inr v) (ht : inr t) (hb : BI g) {c : Int} (hw : WI c (g 9)) (K : ∀ g', Sm g g' → Q (vI (aFirst g n v t)) (mkM am B h0 g')) : V E mX7_first 6 0 0 [some (.ref am), some (vI n), some (vI v), some (vI t), none] [] (mkM am B h0 g) Q X := by
  have hb1 := hb.1
  have w0 := hw.1
  unfold aFirst at K
  by_cases cc : (0 ≤ n ∧ n < g 1 0) ∧ ((0 ≤ v ∧ v ≤ 255) ∨ v = -7) ∧ (0 ≤ t ∧ t ≤ g 9 0)
  · rw [pIf_t cc] at K
    have L : ∀ g', Sm g g' → LnO g n (g' 40) → V E mX7_first 6 0 43 [some (.ref am), some (vI n), some (vI v), some (vI t), some (vI t)] [] (mkM am B h0 g') Q X := by
      intro g' hs hL
      have hr_g' := hs.2
      have K := K g' hs
      have e9 : g' 9 = g 9 := hs.1 9 (by omega)
      have e90 : g' 9 0 = g 9 0 := by rw [e9]
      have e0 : ∀ (m : Nat) (i : Int), i + m = g 9 0 + 1 → t ≤ i → Q (vI (fstP (fun e => nAt g e n = v) m i)) (mkM am B h0 g') → V E mX7_first 6 0 43 [some (.ref am), some (vI n), some (vI v), some (vI t), some (vI i)] [] (mkM am B h0 g') Q X := by
        intro m
        induction m with
        | zero =>
          intro i h1 h2 hQ
          refine V_iload dX7_first_43 rfl ?_
          refine V_aload_n dX7_first_45 rfl ?_
          refine VM_geta 9 dX7_first_46 q2615 (by decide) rfl ?_
          refine V_iconst dX7_first_49 ?_
          refine VM_ialdE 9 (g' 9 0) hB dX7_first_50 mar9 rfl (by first | omega | (simp [gup, aup]; omega)) (by show _ < (209 : Int); first | omega | (simp [gup, aup]; omega)) (by decide) rfl ?_
          refine V_icmp_gt 74 dX7_first_51 (by decide) (by first | omega | exact hr_g' _ _ | decide) (by first | omega | exact hr_g' _ _ | decide) (fun c_51 => ?_) (fun c_51 => by exfalso; omega)
          refine V_bipush dX7_first_74 (by decide) ?_
          exact V_iret dX7_first_76 rfl (by exact hQ)
        | succ m ih =>
          intro i h1 h2 hQ
          have hc := hL i (by omega) (by omega)
          unfold fstP at hQ
          by_cases ce : nAt g i n = v
          · rw [pIf_t ce] at hQ
            refine V_iload dX7_first_43 rfl ?_
            refine V_aload_n dX7_first_45 rfl ?_
            refine VM_geta 9 dX7_first_46 q2615 (by decide) rfl ?_
            refine V_iconst dX7_first_49 ?_
            refine VM_ialdE 9 (g' 9 0) hB dX7_first_50 mar9 rfl (by first | omega | (simp [gup, aup]; omega)) (by show _ < (209 : Int); first | omega | (simp [gup, aup]; omega)) (by decide) rfl ?_
            refine V_icmp_gt 74 dX7_first_51 (by decide) (by first | omega | exact hr_g' _ _ | decide) (by first | omega | exact hr_g' _ _ | decide) (fun c_51 => by exfalso; omega) (fun c_51 => ?_)
            refine V_aload_n dX7_first_54 rfl ?_
            refine VM_geta 40 dX7_first_55 q2646 (by decide) rfl ?_
            refine V_iload dX7_first_58 rfl ?_
            refine VM_ialdE 40 (g' 40 i) hB dX7_first_60 mar40 rfl (by first | omega | (simp [gup, aup]; omega)) (by show _ < (1000 : Int); first | omega | (simp [gup, aup]; omega)) (by decide) rfl ?_
            refine V_iload_n dX7_first_61 rfl ?_
            refine V_icmp_ne 68 dX7_first_62 (by decide) (by first | omega | exact hr_g' _ _ | decide) (by first | omega | exact hr_g' _ _ | decide) (fun c_62 => by exfalso; omega) (fun c_62 => ?_)
            refine V_iload dX7_first_65 rfl ?_
            exact V_iret dX7_first_67 rfl (by exact hQ)
          · rw [pIf_f ce] at hQ
            refine V_iload dX7_first_43 rfl ?_
            refine V_aload_n dX7_first_45 rfl ?_
            refine VM_geta 9 dX7_first_46 q2615 (by decide) rfl ?_
            refine V_iconst dX7_first_49 ?_
            refine VM_ialdE 9 (g' 9 0) hB dX7_first_50 mar9 rfl (by first | omega | (simp [gup, aup]; omega)) (by show _ < (209 : Int); first | omega | (simp [gup, aup]; omega)) (by decide) rfl ?_
            refine V_icmp_gt 74 dX7_first_51 (by decide) (by first | omega | exact hr_g' _ _ | decide) (by first | omega | exact hr_g' _ _ | decide) (fun c_51 => by exfalso; omega) (fun c_51 => ?_)
            refine V_aload_n dX7_first_54 rfl ?_
            refine VM_geta 40 dX7_first_55 q2646 (by decide) rfl ?_
            refine V_iload dX7_first_58 rfl ?_
            refine VM_ialdE 40 (g' 40 i) hB dX7_first_60 mar40 rfl (by first | omega | (simp [gup, aup]; omega)) (by show _ < (1000 : Int); first | omega | (simp [gup, aup]; omega)) (by decide) rfl ?_
            refine V_iload_n dX7_first_61 rfl ?_
            refine V_icmp_ne 68 dX7_first_62 (by decide) (by first | omega | exact hr_g' _ _ | decide) (by first | omega | exact hr_g' _ _ | decide) (fun c_62 => ?_) (fun c_62 => by exfalso; omega)
            refine V_iinc dX7_first_68 rfl (by decide) ?_
            refine V_goto 43 dX7_first_71 (by decide) ?_
            exact ih (i + 1) (by omega) (by omega) hQ
      exact e0 (g 9 0 - t + 1).toNat t (by omega) (by omega) K
    refine V_aload_n dX7_first_0 rfl ?_
    refine V_iload_n dX7_first_1 rfl ?_
    refine VM_c1 (M' := mX7_isNode) okX7_isNode rfl dX7_first_2 q2872 rfl rfl (Nat.le_of_ble_eq_true rfl) (d' := 2) (b1 := 0) (by decide) (by decide) (c_X7_isNode hB hr_g (by first | omega | exact hr_g _ _ | decide) (by first | omega | (simp [gup, aup]; omega)) (fun c_2 => ?_) (fun c_2 => ?_))
    · refine V_if_eq 33 dX7_first_5 (by decide) (by first | omega | exact hr_g _ _ | decide) (fun c_5 => absurd c_5 (by decide)) (fun c_5 => ?_)
      refine V_iload_n dX7_first_8 rfl ?_
      refine V_iconst dX7_first_9 ?_
      refine V_sipush dX7_first_10 (by decide) ?_
      refine VS_c3 (M' := mX7_in) okX7_in dX7_first_13 q2762 rfl rfl (Nat.le_of_ble_eq_true rfl) (d' := 1) (b1 := 0) (by decide) (by decide) (c_X7_in (by first | omega | exact hr_g _ _ | decide) (by first | omega | exact hr_g _ _ | decide) (by first | omega | exact hr_g _ _ | decide) (fun c_13 => ?_) (fun c_13 => ?_))
      · refine V_if_ne 25 dX7_first_16 (by decide) (by first | omega | exact hr_g _ _ | decide) (fun c_16 => ?_) (fun c_16 => absurd c_16 (by decide))
        refine V_aload_n dX7_first_25 rfl ?_
        refine V_iload_n dX7_first_26 rfl ?_
        refine VM_c1 (M' := mX7_isTime) okX7_isTime rfl dX7_first_27 q2931 rfl rfl (Nat.le_of_ble_eq_true rfl) (d' := 2) (b1 := 0) (by decide) (by decide) (c_X7_isTime hB hr_g (by first | omega | exact hr_g _ _ | decide) (fun c_27 => ?_) (fun c_27 => ?_))
        · refine V_if_ne 35 dX7_first_30 (by decide) (by first | omega | exact hr_g _ _ | decide) (fun c_30 => ?_) (fun c_30 => absurd c_30 (by decide))
          refine V_aload_n dX7_first_35 rfl ?_
          refine V_iload_n dX7_first_36 rfl ?_
          refine VM_v1 (M' := mX7_laysLine) okX7_laysLine rfl dX7_first_37 q2950 rfl rfl (Nat.le_of_ble_eq_true rfl) (d' := 5) (b1 := 0) (by decide) (by decide) (c_X7_laysLine hB hr_g cc.1 hb hw (fun g' hs hL => ?_))
          refine V_iload_n dX7_first_40 rfl ?_
          refine V_istore dX7_first_41 (by decide) ?_
          exact L g' hs hL
        · refine V_if_ne 35 dX7_first_30 (by decide) (by first | omega | exact hr_g _ _ | decide) (fun c_30 => absurd c_30 (by decide)) (fun c_30 => ?_)
          exfalso; omega
      · refine V_if_ne 25 dX7_first_16 (by decide) (by first | omega | exact hr_g _ _ | decide) (fun c_16 => absurd c_16 (by decide)) (fun c_16 => ?_)
        refine V_iload_n dX7_first_19 rfl ?_
        refine V_bipush dX7_first_20 (by decide) ?_
        refine V_icmp_ne 33 dX7_first_22 (by decide) (by first | omega | exact hr_g _ _ | decide) (by first | omega | exact hr_g _ _ | decide) (fun c_22 => ?_) (fun c_22 => ?_)
        · exfalso; omega
        · refine V_aload_n dX7_first_25 rfl ?_
          refine V_iload_n dX7_first_26 rfl ?_
          refine VM_c1 (M' := mX7_isTime) okX7_isTime rfl dX7_first_27 q2931 rfl rfl (Nat.le_of_ble_eq_true rfl) (d' := 2) (b1 := 0) (by decide) (by decide) (c_X7_isTime hB hr_g (by first | omega | exact hr_g _ _ | decide) (fun c_27 => ?_) (fun c_27 => ?_))
          · refine V_if_ne 35 dX7_first_30 (by decide) (by first | omega | exact hr_g _ _ | decide) (fun c_30 => ?_) (fun c_30 => absurd c_30 (by decide))
            refine V_aload_n dX7_first_35 rfl ?_
            refine V_iload_n dX7_first_36 rfl ?_
            refine VM_v1 (M' := mX7_laysLine) okX7_laysLine rfl dX7_first_37 q2950 rfl rfl (Nat.le_of_ble_eq_true rfl) (d' := 5) (b1 := 0) (by decide) (by decide) (c_X7_laysLine hB hr_g cc.1 hb hw (fun g' hs hL => ?_))
            refine V_iload_n dX7_first_40 rfl ?_
            refine V_istore dX7_first_41 (by decide) ?_
            exact L g' hs hL
          · refine V_if_ne 35 dX7_first_30 (by decide) (by first | omega | exact hr_g _ _ | decide) (fun c_30 => absurd c_30 (by decide)) (fun c_30 => ?_)
            exfalso; omega
    · refine V_if_eq 33 dX7_first_5 (by decide) (by first | omega | exact hr_g _ _ | decide) (fun c_5 => ?_) (fun c_5 => absurd c_5 (by decide))
      exfalso; omega
  · rw [pIf_f cc] at K
    have K := K g (Sm.rfl' hr_g)
    refine V_aload_n dX7_first_0 rfl ?_
    refine V_iload_n dX7_first_1 rfl ?_
    refine VM_c1 (M' := mX7_isNode) okX7_isNode rfl dX7_first_2 q2872 rfl rfl (Nat.le_of_ble_eq_true rfl) (d' := 2) (b1 := 0) (by decide) (by decide) (c_X7_isNode hB hr_g (by first | omega | exact hr_g _ _ | decide) (by first | omega | (simp [gup, aup]; omega)) (fun c_2 => ?_) (fun c_2 => ?_))
    · refine V_if_eq 33 dX7_first_5 (by decide) (by first | omega | exact hr_g _ _ | decide) (fun c_5 => absurd c_5 (by decide)) (fun c_5 => ?_)
      refine V_iload_n dX7_first_8 rfl ?_
      refine V_iconst dX7_first_9 ?_
      refine V_sipush dX7_first_10 (by decide) ?_
      refine VS_c3 (M' := mX7_in) okX7_in dX7_first_13 q2762 rfl rfl (Nat.le_of_ble_eq_true rfl) (d' := 1) (b1 := 0) (by decide) (by decide) (c_X7_in (by first | omega | exact hr_g _ _ | decide) (by first | omega | exact hr_g _ _ | decide) (by first | omega | exact hr_g _ _ | decide) (fun c_13 => ?_) (fun c_13 => ?_))
      · refine V_if_ne 25 dX7_first_16 (by decide) (by first | omega | exact hr_g _ _ | decide) (fun c_16 => ?_) (fun c_16 => absurd c_16 (by decide))
        refine V_aload_n dX7_first_25 rfl ?_
        refine V_iload_n dX7_first_26 rfl ?_
        refine VM_c1 (M' := mX7_isTime) okX7_isTime rfl dX7_first_27 q2931 rfl rfl (Nat.le_of_ble_eq_true rfl) (d' := 2) (b1 := 0) (by decide) (by decide) (c_X7_isTime hB hr_g (by first | omega | exact hr_g _ _ | decide) (fun c_27 => ?_) (fun c_27 => ?_))
        · refine V_if_ne 35 dX7_first_30 (by decide) (by first | omega | exact hr_g _ _ | decide) (fun c_30 => ?_) (fun c_30 => absurd c_30 (by decide))
          exfalso; omega
        · refine V_if_ne 35 dX7_first_30 (by decide) (by first | omega | exact hr_g _ _ | decide) (fun c_30 => absurd c_30 (by decide)) (fun c_30 => ?_)
          refine V_iconst dX7_first_33 ?_
          exact V_iret dX7_first_34 rfl (by exact K)
      · refine V_if_ne 25 dX7_first_16 (by decide) (by first | omega | exact hr_g _ _ | decide) (fun c_16 => absurd c_16 (by decide)) (fun c_16 => ?_)
        refine V_iload_n dX7_first_19 rfl ?_
        refine V_bipush dX7_first_20 (by decide) ?_
        refine V_icmp_ne 33 dX7_first_22 (by decide) (by first | omega | exact hr_g _ _ | decide) (by first | omega | exact hr_g _ _ | decide) (fun c_22 => ?_) (fun c_22 => ?_)
        · refine V_iconst dX7_first_33 ?_
          exact V_iret dX7_first_34 rfl (by exact K)
        · refine V_aload_n dX7_first_25 rfl ?_
          refine V_iload_n dX7_first_26 rfl ?_
          refine VM_c1 (M' := mX7_isTime) okX7_isTime rfl dX7_first_27 q2931 rfl rfl (Nat.le_of_ble_eq_true rfl) (d' := 2) (b1 := 0) (by decide) (by decide) (c_X7_isTime hB hr_g (by first | omega | exact hr_g _ _ | decide) (fun c_27 => ?_) (fun c_27 => ?_))
          · refine V_if_ne 35 dX7_first_30 (by decide) (by first | omega | exact hr_g _ _ | decide) (fun c_30 => ?_) (fun c_30 => absurd c_30 (by decide))
            exfalso; omega
          · refine V_if_ne 35 dX7_first_30 (by decide) (by first | omega | exact hr_g _ _ | decide) (fun c_30 => absurd c_30 (by decide)) (fun c_30 => ?_)
            refine V_iconst dX7_first_33 ?_
            exact V_iret dX7_first_34 rfl (by exact K)
    · refine V_if_eq 33 dX7_first_5 (by decide) (by first | omega | exact hr_g _ _ | decide) (fun c_5 => ?_) (fun c_5 => absurd c_5 (by decide))
      refine V_iconst dX7_first_33 ?_
      exact V_iret dX7_first_34 rfl (by exact K)
theorem c_X7_holds (hB : MB am B) (hr_g : Rng g) {n v t : Int} (hn : inr n) (hv : inr v) (ht : inr t) (hb : BI g) {c : Int} (hw : WI c (g 9)) (K : ∀ g', Sm g g' → Q (vI (aHolds g n v t)) (mkM am B h0 g')) : V E mX7_holds 6 0 0 [some (.ref am), some (vI n), some (vI v), some (vI t), none, none] [] (mkM am B h0 g) Q X := by
  have hb1 := hb.1
  have w0 := hw.1
  unfold aHolds at K
  by_cases cc : (0 ≤ n ∧ n < g 1 0) ∧ (1 ≤ v ∧ v ≤ 999) ∧ (0 ≤ t ∧ t ≤ g 9 0)
  · rw [pIf_t cc] at K
    have L : ∀ g', Sm g g' → LnO g n (g' 40) → V E mX7_holds 6 0 40 [some (.ref am), some (vI n), some (vI v), some (vI t), some (vI 0), some (vI t)] [] (mkM am B h0 g') Q X := by
      intro g' hs hL
      have hr_g' := hs.2
      have K := K g' hs
      have e9 : g' 9 = g 9 := hs.1 9 (by omega)
      have e90 : g' 9 0 = g 9 0 := by rw [e9]
      have e0 : ∀ (m : Nat) (i z : Int), i + m = g 9 0 + 1 → t ≤ i → (0 ≤ z ∧ z ≤ i) → Q (vI (hldN (fun u => nAt g u n) v m i z)) (mkM am B h0 g') → V E mX7_holds 6 0 40 [some (.ref am), some (vI n), some (vI v), some (vI t), some (vI z), some (vI i)] [] (mkM am B h0 g') Q X := by
        intro m
        induction m with
        | zero =>
          intro i z h1 h2 hz hQ
          refine V_iload dX7_holds_40 rfl ?_
          refine V_aload_n dX7_holds_42 rfl ?_
          refine VM_geta 9 dX7_holds_43 q2615 (by decide) rfl ?_
          refine V_iconst dX7_holds_46 ?_
          refine VM_ialdE 9 (g' 9 0) hB dX7_holds_47 mar9 rfl (by first | omega | (simp [gup, aup]; omega)) (by show _ < (209 : Int); first | omega | (simp [gup, aup]; omega)) (by decide) rfl ?_
          refine V_icmp_gt 102 dX7_holds_48 (by decide) (by first | omega | exact hr_g' _ _ | decide) (by first | omega | exact hr_g' _ _ | decide) (fun c_48 => ?_) (fun c_48 => by exfalso; omega)
          refine V_bipush dX7_holds_102 (by decide) ?_
          exact V_iret dX7_holds_104 rfl (by exact hQ)
        | succ m ih =>
          intro i z h1 h2 hz hQ
          have hc := hL i (by omega) (by omega)
          unfold hldN at hQ
          by_cases ce : nAt g i n = -7 ∨ nAt g i n = 0
          · rw [if_pos ce, if_neg (by omega)] at hQ
            refine V_iload dX7_holds_40 rfl ?_
            refine V_aload_n dX7_holds_42 rfl ?_
            refine VM_geta 9 dX7_holds_43 q2615 (by decide) rfl ?_
            refine V_iconst dX7_holds_46 ?_
            refine VM_ialdE 9 (g' 9 0) hB dX7_holds_47 mar9 rfl (by first | omega | (simp [gup, aup]; omega)) (by show _ < (209 : Int); first | omega | (simp [gup, aup]; omega)) (by decide) rfl ?_
            refine V_icmp_gt 102 dX7_holds_48 (by decide) (by first | omega | exact hr_g' _ _ | decide) (by first | omega | exact hr_g' _ _ | decide) (fun c_48 => by exfalso; omega) (fun c_48 => ?_)
            refine V_aload_n dX7_holds_51 rfl ?_
            refine VM_geta 40 dX7_holds_52 q2646 (by decide) rfl ?_
            refine V_iload dX7_holds_55 rfl ?_
            refine VM_ialdE 40 (g' 40 i) hB dX7_holds_57 mar40 rfl (by first | omega | (simp [gup, aup]; omega)) (by show _ < (1000 : Int); first | omega | (simp [gup, aup]; omega)) (by decide) rfl ?_
            refine V_bipush dX7_holds_58 (by decide) ?_
            refine V_icmp_eq 73 dX7_holds_60 (by decide) (by first | omega | exact hr_g' _ _ | decide) (by first | omega | exact hr_g' _ _ | decide) (fun c_60 => ?_) (fun c_60 => ?_)
            · refine V_iconst dX7_holds_73 ?_
              refine V_goto 81 dX7_holds_74 (by decide) ?_
              refine V_istore dX7_holds_81 (by decide) ?_
              refine V_iload dX7_holds_83 rfl ?_
              refine V_iload_n dX7_holds_85 rfl ?_
              refine V_icmp_ne 96 dX7_holds_86 (by decide) (by first | omega | exact hr_g' _ _ | decide) (by first | omega | exact hr_g' _ _ | decide) (fun c_86 => ?_) (fun c_86 => by exfalso; omega)
              refine V_iinc dX7_holds_96 rfl (by decide) ?_
              refine V_goto 40 dX7_holds_99 (by decide) ?_
              exact ih (i + 1) _ (by omega) (by omega) (by omega) hQ
            · refine V_aload_n dX7_holds_63 rfl ?_
              refine VM_geta 40 dX7_holds_64 q2646 (by decide) rfl ?_
              refine V_iload dX7_holds_67 rfl ?_
              refine VM_ialdE 40 (g' 40 i) hB dX7_holds_69 mar40 rfl (by first | omega | (simp [gup, aup]; omega)) (by show _ < (1000 : Int); first | omega | (simp [gup, aup]; omega)) (by decide) rfl ?_
              refine V_if_ne 77 dX7_holds_70 (by decide) (by first | omega | exact hr_g' _ _ | decide) (fun c_70 => ?_) (fun c_70 => ?_)
              · exfalso; omega
              · refine V_iconst dX7_holds_73 ?_
                refine V_goto 81 dX7_holds_74 (by decide) ?_
                refine V_istore dX7_holds_81 (by decide) ?_
                refine V_iload dX7_holds_83 rfl ?_
                refine V_iload_n dX7_holds_85 rfl ?_
                refine V_icmp_ne 96 dX7_holds_86 (by decide) (by first | omega | exact hr_g' _ _ | decide) (by first | omega | exact hr_g' _ _ | decide) (fun c_86 => ?_) (fun c_86 => by exfalso; omega)
                refine V_iinc dX7_holds_96 rfl (by decide) ?_
                refine V_goto 40 dX7_holds_99 (by decide) ?_
                exact ih (i + 1) _ (by omega) (by omega) (by omega) hQ
          · rw [if_neg ce] at hQ
            by_cases cv : z + 1 = v
            · rw [if_pos cv] at hQ
              refine V_iload dX7_holds_40 rfl ?_
              refine V_aload_n dX7_holds_42 rfl ?_
              refine VM_geta 9 dX7_holds_43 q2615 (by decide) rfl ?_
              refine V_iconst dX7_holds_46 ?_
              refine VM_ialdE 9 (g' 9 0) hB dX7_holds_47 mar9 rfl (by first | omega | (simp [gup, aup]; omega)) (by show _ < (209 : Int); first | omega | (simp [gup, aup]; omega)) (by decide) rfl ?_
              refine V_icmp_gt 102 dX7_holds_48 (by decide) (by first | omega | exact hr_g' _ _ | decide) (by first | omega | exact hr_g' _ _ | decide) (fun c_48 => by exfalso; omega) (fun c_48 => ?_)
              refine V_aload_n dX7_holds_51 rfl ?_
              refine VM_geta 40 dX7_holds_52 q2646 (by decide) rfl ?_
              refine V_iload dX7_holds_55 rfl ?_
              refine VM_ialdE 40 (g' 40 i) hB dX7_holds_57 mar40 rfl (by first | omega | (simp [gup, aup]; omega)) (by show _ < (1000 : Int); first | omega | (simp [gup, aup]; omega)) (by decide) rfl ?_
              refine V_bipush dX7_holds_58 (by decide) ?_
              refine V_icmp_eq 73 dX7_holds_60 (by decide) (by first | omega | exact hr_g' _ _ | decide) (by first | omega | exact hr_g' _ _ | decide) (fun c_60 => ?_) (fun c_60 => ?_)
              · exfalso; omega
              · refine V_aload_n dX7_holds_63 rfl ?_
                refine VM_geta 40 dX7_holds_64 q2646 (by decide) rfl ?_
                refine V_iload dX7_holds_67 rfl ?_
                refine VM_ialdE 40 (g' 40 i) hB dX7_holds_69 mar40 rfl (by first | omega | (simp [gup, aup]; omega)) (by show _ < (1000 : Int); first | omega | (simp [gup, aup]; omega)) (by decide) rfl ?_
                refine V_if_ne 77 dX7_holds_70 (by decide) (by first | omega | exact hr_g' _ _ | decide) (fun c_70 => ?_) (fun c_70 => ?_)
                · refine V_iload dX7_holds_77 rfl ?_
                  refine V_iconst dX7_holds_79 ?_
                  refine V_iadd dX7_holds_80 ?_
                  refine V_istore dX7_holds_81 (by decide) ?_
                  refine V_iload dX7_holds_83 rfl ?_
                  refine V_iload_n dX7_holds_85 rfl ?_
                  refine V_icmp_ne 96 dX7_holds_86 (by decide) (by first | omega | exact hr_g' _ _ | decide) (by first | omega | exact hr_g' _ _ | decide) (fun c_86 => by exfalso; omega) (fun c_86 => ?_)
                  refine V_iload dX7_holds_89 rfl ?_
                  refine V_iload_n dX7_holds_91 rfl ?_
                  refine V_isub dX7_holds_92 ?_
                  refine V_iconst dX7_holds_93 ?_
                  refine V_iadd dX7_holds_94 ?_
                  exact V_iret dX7_holds_95 rfl (by exact hQ)
                · exfalso; omega
            · rw [if_neg cv] at hQ
              refine V_iload dX7_holds_40 rfl ?_
              refine V_aload_n dX7_holds_42 rfl ?_
              refine VM_geta 9 dX7_holds_43 q2615 (by decide) rfl ?_
              refine V_iconst dX7_holds_46 ?_
              refine VM_ialdE 9 (g' 9 0) hB dX7_holds_47 mar9 rfl (by first | omega | (simp [gup, aup]; omega)) (by show _ < (209 : Int); first | omega | (simp [gup, aup]; omega)) (by decide) rfl ?_
              refine V_icmp_gt 102 dX7_holds_48 (by decide) (by first | omega | exact hr_g' _ _ | decide) (by first | omega | exact hr_g' _ _ | decide) (fun c_48 => by exfalso; omega) (fun c_48 => ?_)
              refine V_aload_n dX7_holds_51 rfl ?_
              refine VM_geta 40 dX7_holds_52 q2646 (by decide) rfl ?_
              refine V_iload dX7_holds_55 rfl ?_
              refine VM_ialdE 40 (g' 40 i) hB dX7_holds_57 mar40 rfl (by first | omega | (simp [gup, aup]; omega)) (by show _ < (1000 : Int); first | omega | (simp [gup, aup]; omega)) (by decide) rfl ?_
              refine V_bipush dX7_holds_58 (by decide) ?_
              refine V_icmp_eq 73 dX7_holds_60 (by decide) (by first | omega | exact hr_g' _ _ | decide) (by first | omega | exact hr_g' _ _ | decide) (fun c_60 => ?_) (fun c_60 => ?_)
              · exfalso; omega
              · refine V_aload_n dX7_holds_63 rfl ?_
                refine VM_geta 40 dX7_holds_64 q2646 (by decide) rfl ?_
                refine V_iload dX7_holds_67 rfl ?_
                refine VM_ialdE 40 (g' 40 i) hB dX7_holds_69 mar40 rfl (by first | omega | (simp [gup, aup]; omega)) (by show _ < (1000 : Int); first | omega | (simp [gup, aup]; omega)) (by decide) rfl ?_
                refine V_if_ne 77 dX7_holds_70 (by decide) (by first | omega | exact hr_g' _ _ | decide) (fun c_70 => ?_) (fun c_70 => ?_)
                · refine V_iload dX7_holds_77 rfl ?_
                  refine V_iconst dX7_holds_79 ?_
                  refine V_iadd dX7_holds_80 ?_
                  refine V_istore dX7_holds_81 (by decide) ?_
                  refine V_iload dX7_holds_83 rfl ?_
                  refine V_iload_n dX7_holds_85 rfl ?_
                  refine V_icmp_ne 96 dX7_holds_86 (by decide) (by first | omega | exact hr_g' _ _ | decide) (by first | omega | exact hr_g' _ _ | decide) (fun c_86 => ?_) (fun c_86 => by exfalso; omega)
                  refine V_iinc dX7_holds_96 rfl (by decide) ?_
                  refine V_goto 40 dX7_holds_99 (by decide) ?_
                  exact ih (i + 1) _ (by omega) (by omega) (by omega) hQ
                · exfalso; omega
      exact e0 (g 9 0 - t + 1).toNat t 0 (by omega) (by omega) (by omega) K
    refine V_aload_n dX7_holds_0 rfl ?_
    refine V_iload_n dX7_holds_1 rfl ?_
    refine VM_c1 (M' := mX7_isNode) okX7_isNode rfl dX7_holds_2 q2872 rfl rfl (Nat.le_of_ble_eq_true rfl) (d' := 2) (b1 := 0) (by decide) (by decide) (c_X7_isNode hB hr_g (by first | omega | exact hr_g _ _ | decide) (by first | omega | (simp [gup, aup]; omega)) (fun c_2 => ?_) (fun c_2 => ?_))
    · refine V_if_eq 27 dX7_holds_5 (by decide) (by first | omega | exact hr_g _ _ | decide) (fun c_5 => absurd c_5 (by decide)) (fun c_5 => ?_)
      refine V_iload_n dX7_holds_8 rfl ?_
      refine V_iconst dX7_holds_9 ?_
      refine V_sipush dX7_holds_10 (by decide) ?_
      refine VS_c3 (M' := mX7_in) okX7_in dX7_holds_13 q2762 rfl rfl (Nat.le_of_ble_eq_true rfl) (d' := 1) (b1 := 0) (by decide) (by decide) (c_X7_in (by first | omega | exact hr_g _ _ | decide) (by first | omega | exact hr_g _ _ | decide) (by first | omega | exact hr_g _ _ | decide) (fun c_13 => ?_) (fun c_13 => ?_))
      · refine V_if_eq 27 dX7_holds_16 (by decide) (by first | omega | exact hr_g _ _ | decide) (fun c_16 => absurd c_16 (by decide)) (fun c_16 => ?_)
        refine V_aload_n dX7_holds_19 rfl ?_
        refine V_iload_n dX7_holds_20 rfl ?_
        refine VM_c1 (M' := mX7_isTime) okX7_isTime rfl dX7_holds_21 q2931 rfl rfl (Nat.le_of_ble_eq_true rfl) (d' := 2) (b1 := 0) (by decide) (by decide) (c_X7_isTime hB hr_g (by first | omega | exact hr_g _ _ | decide) (fun c_21 => ?_) (fun c_21 => ?_))
        · refine V_if_ne 29 dX7_holds_24 (by decide) (by first | omega | exact hr_g _ _ | decide) (fun c_24 => ?_) (fun c_24 => absurd c_24 (by decide))
          refine V_aload_n dX7_holds_29 rfl ?_
          refine V_iload_n dX7_holds_30 rfl ?_
          refine VM_v1 (M' := mX7_laysLine) okX7_laysLine rfl dX7_holds_31 q2950 rfl rfl (Nat.le_of_ble_eq_true rfl) (d' := 5) (b1 := 0) (by decide) (by decide) (c_X7_laysLine hB hr_g cc.1 hb hw (fun g' hs hL => ?_))
          refine V_iconst dX7_holds_34 ?_
          refine V_istore dX7_holds_35 (by decide) ?_
          refine V_iload_n dX7_holds_37 rfl ?_
          refine V_istore dX7_holds_38 (by decide) ?_
          exact L g' hs hL
        · refine V_if_ne 29 dX7_holds_24 (by decide) (by first | omega | exact hr_g _ _ | decide) (fun c_24 => absurd c_24 (by decide)) (fun c_24 => ?_)
          exfalso; omega
      · refine V_if_eq 27 dX7_holds_16 (by decide) (by first | omega | exact hr_g _ _ | decide) (fun c_16 => ?_) (fun c_16 => absurd c_16 (by decide))
        exfalso; omega
    · refine V_if_eq 27 dX7_holds_5 (by decide) (by first | omega | exact hr_g _ _ | decide) (fun c_5 => ?_) (fun c_5 => absurd c_5 (by decide))
      exfalso; omega
  · rw [pIf_f cc] at K
    have K := K g (Sm.rfl' hr_g)
    refine V_aload_n dX7_holds_0 rfl ?_
    refine V_iload_n dX7_holds_1 rfl ?_
    refine VM_c1 (M' := mX7_isNode) okX7_isNode rfl dX7_holds_2 q2872 rfl rfl (Nat.le_of_ble_eq_true rfl) (d' := 2) (b1 := 0) (by decide) (by decide) (c_X7_isNode hB hr_g (by first | omega | exact hr_g _ _ | decide) (by first | omega | (simp [gup, aup]; omega)) (fun c_2 => ?_) (fun c_2 => ?_))
    · refine V_if_eq 27 dX7_holds_5 (by decide) (by first | omega | exact hr_g _ _ | decide) (fun c_5 => absurd c_5 (by decide)) (fun c_5 => ?_)
      refine V_iload_n dX7_holds_8 rfl ?_
      refine V_iconst dX7_holds_9 ?_
      refine V_sipush dX7_holds_10 (by decide) ?_
      refine VS_c3 (M' := mX7_in) okX7_in dX7_holds_13 q2762 rfl rfl (Nat.le_of_ble_eq_true rfl) (d' := 1) (b1 := 0) (by decide) (by decide) (c_X7_in (by first | omega | exact hr_g _ _ | decide) (by first | omega | exact hr_g _ _ | decide) (by first | omega | exact hr_g _ _ | decide) (fun c_13 => ?_) (fun c_13 => ?_))
      · refine V_if_eq 27 dX7_holds_16 (by decide) (by first | omega | exact hr_g _ _ | decide) (fun c_16 => absurd c_16 (by decide)) (fun c_16 => ?_)
        refine V_aload_n dX7_holds_19 rfl ?_
        refine V_iload_n dX7_holds_20 rfl ?_
        refine VM_c1 (M' := mX7_isTime) okX7_isTime rfl dX7_holds_21 q2931 rfl rfl (Nat.le_of_ble_eq_true rfl) (d' := 2) (b1 := 0) (by decide) (by decide) (c_X7_isTime hB hr_g (by first | omega | exact hr_g _ _ | decide) (fun c_21 => ?_) (fun c_21 => ?_))
        · refine V_if_ne 29 dX7_holds_24 (by decide) (by first | omega | exact hr_g _ _ | decide) (fun c_24 => ?_) (fun c_24 => absurd c_24 (by decide))
          exfalso; omega
        · refine V_if_ne 29 dX7_holds_24 (by decide) (by first | omega | exact hr_g _ _ | decide) (fun c_24 => absurd c_24 (by decide)) (fun c_24 => ?_)
          refine V_iconst dX7_holds_27 ?_
          exact V_iret dX7_holds_28 rfl (by exact K)
      · refine V_if_eq 27 dX7_holds_16 (by decide) (by first | omega | exact hr_g _ _ | decide) (fun c_16 => ?_) (fun c_16 => absurd c_16 (by decide))
        refine V_iconst dX7_holds_27 ?_
        exact V_iret dX7_holds_28 rfl (by exact K)
    · refine V_if_eq 27 dX7_holds_5 (by decide) (by first | omega | exact hr_g _ _ | decide) (fun c_5 => ?_) (fun c_5 => absurd c_5 (by decide))
      refine V_iconst dX7_holds_27 ?_
      exact V_iret dX7_holds_28 rfl (by exact K)
end M23b
