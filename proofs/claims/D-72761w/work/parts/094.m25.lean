/-! THE REFERENCE'S METHODS, part 25: ticks, delays, the block of a time -/
section M25
variable {E : Ev} {am : Nat} {B : Nat → Nat} {h0 h : AH} {g : MG} {Q : Value → AH → Prop} {X : Nat → AH → Prop}
theorem nAt_same {g g' : MG} (h : BI g) (hs : ∀ k, k < 16 → g' k = g k) {t j : Int} (h1 : 0 ≤ j) (h2 : j < g 1 0) : nAt g' t j = nAt g t j := by
  unfold nAt
  rw [hs 9 (by omega), nv_same h (fun k hk => hs k (by omega)) h1 h2]
theorem tkP_c {A A' N N' : Int → Int} {set j : Int} (e : A j = A' j) (e' : N j = N' j) : tkP A N set j ↔ tkP A' N' set j := by unfold tkP; rw [e, e']
theorem nt_tick {g : MG} {c : Int} (hw : WI c (g 9)) {set t : Int} (h : ¬ isT (g 9) t) : ¬ tickP g set t := by
  rintro ⟨-, j, -, -, q⟩
  refine q.2.2.2 ?_
  unfold nAt
  rw [wvAt_s hw h]
theorem c_tk32 (hB : MB am B) {set k : Int} (hk : inr k) (hb : BI g) {c : Int} (hw : WI c (g 9)) {T : Int → Int} (hT : TO T (isT (g 9))) : ∀ (m : Nat) (t many : Int) (v5 : Option Value), t + m = g 9 0 + 1 → 0 ≤ t → (0 ≤ many ∧ many ≤ t) → ∀ g', Sm g g' → g' 39 = T → (0 < t → ∀ j, 0 ≤ j → j < g 1 0 → g' 36 j = nAt g (t - 1) j) → (∀ g', Sm g g' → Q (vI (tkN (tickP g set) k m t many)) (mkM am B h0 g')) → V E mX7_ticks 5 0 32 [some (.ref am), some (vI set), some (vI k), some (vI many), some (vI t), v5] [] (mkM am B h0 g') Q X := by
  have hb1 := hb.1
  have w0 := hw.1
  intro m
  induction m with
  | zero =>
    intro t many v5 ht h1 hm g' hs h39 h36 K
    have hr_g' := hs.2
    have e9 : g' 9 = g 9 := hs.1 9 (by omega)
    have e90 : g' 9 0 = g 9 0 := by rw [e9]
    have K := K g' hs
    unfold tkN at K
    refine V_iload dX7_ticks_32 rfl ?_
    refine V_aload_n dX7_ticks_34 rfl ?_
    refine VM_geta 9 dX7_ticks_35 q2615 (by decide) rfl ?_
    refine V_iconst dX7_ticks_38 ?_
    refine VM_ialdE 9 (g' 9 0) hB dX7_ticks_39 mar9 rfl (by first | omega | (simp [gup, aup]; omega)) (by show _ < (209 : Int); first | omega | (simp [gup, aup]; omega)) (by decide) rfl ?_
    refine V_icmp_gt 131 dX7_ticks_40 (by decide) (by first | omega | exact hr_g' _ _ | decide) (by first | omega | exact hr_g' _ _ | decide) (fun c_40 => ?_) (fun c_40 => by exfalso; omega)
    refine V_iload_n dX7_ticks_131 rfl ?_
    refine V_if_ge 139 dX7_ticks_132 (by decide) (by first | omega | exact hr_g' _ _ | decide) (fun c_132 => ?_) (fun c_132 => ?_)
    · refine V_bipush dX7_ticks_139 (by decide) ?_
      exact V_iret dX7_ticks_141 rfl (by first | (rw [if_pos (by omega)] at K; exact K) | (rw [if_neg (by omega)] at K; exact K))
    · refine V_iload_n dX7_ticks_135 rfl ?_
      refine V_goto 141 dX7_ticks_136 (by decide) ?_
      exact V_iret dX7_ticks_141 rfl (by first | (rw [if_pos (by omega)] at K; exact K) | (rw [if_neg (by omega)] at K; exact K))
  | succ m ih =>
    intro t many v5 ht h1 hm g' hs h39 h36 K
    have hr_g' := hs.2
    have e9 : g' 9 = g 9 := hs.1 9 (by omega)
    have e90 : g' 9 0 = g 9 0 := by rw [e9]
    have e1 : g' 1 = g 1 := hs.1 1 (by omega)
    have e10 : g' 1 0 = g 1 0 := by rw [e1]
    have hTt := hT.2 t h1 (by omega)
    have e39 : g' 39 t = T t := by rw [h39]
    by_cases ct : T t = 1
    · have hcp : ∀ i, ∀ j, inr (acp (g' 41) (g' 36) 0 i 0 j) := fun i => acp_r (hr_g' 41) (hr_g' 36)
      have L85 : V E mX7_ticks 5 0 85 [some (.ref am), some (vI set), some (vI k), some (vI many), some (vI t), some (vI (g 1 0))] [] (mkM am B h0 (gset g' 41 (acp (g' 41) (g' 36) 0 (g 1 0) 0))) Q X := by
        have hs2 : Sm g (gset g' 41 (acp (g' 41) (g' 36) 0 (g 1 0) 0)) := hs.set (by omega) (hcp _)
        obtain ⟨g2, hg2⟩ : ∃ g2, g2 = gset g' 41 (acp (g' 41) (g' 36) 0 (g 1 0) 0) := ⟨_, rfl⟩
        have q41 : g2 41 = acp (g' 41) (g' 36) 0 (g 1 0) 0 := by rw [hg2]; rfl
        have q39 : g2 39 = T := by rw [hg2]; exact h39
        rw [← hg2] at hs2 ⊢
        have hr_g2 := hs2.2
        have f9 : g2 9 = g 9 := hs2.1 9 (by omega)
        have f90 : g2 9 0 = g 9 0 := by rw [f9]
        have f1 : g2 1 = g 1 := hs2.1 1 (by omega)
        have f10 : g2 1 0 = g 1 0 := by rw [f1]
        have e392 : g2 39 t = 1 := by rw [q39]; exact ct
        have hA : ∀ W F S : Int → Int, (∀ j, inr (W j)) → (∀ j, inr (F j)) → (∀ j, inr (S j)) → (∀ j, 0 ≤ j → j < g2 1 0 → F j = nAt g2 t j) → V E mX7_ticks 5 0 101 [some (.ref am), some (vI set), some (vI k), some (vI many), some (vI t), some (vI (g 1 0))] [] (mkM am B h0 (s3 g2 W F S)) Q X := by
          intro W F S r1 r2 r3 r4
          have hs3 : Sm g (s3 g2 W F S) := ((hs2.set (by omega) r1).set (by omega) r2).set (by omega) r3
          obtain ⟨g3, hg3⟩ : ∃ g3, g3 = s3 g2 W F S := ⟨_, rfl⟩
          have p39 : g3 39 = T := by rw [hg3, s3_ne (by omega)]; exact q39
          have p41 : g3 41 = acp (g' 41) (g' 36) 0 (g 1 0) 0 := by rw [hg3, s3_ne (by omega)]; exact q41
          have p36 : ∀ j, 0 ≤ j → j < g 1 0 → g3 36 j = nAt g t j := fun j j1 j2 => by
            rw [hg3]; exact (r4 j j1 (by omega)).trans (nAt_same hb (fun k hk => hs2.1 k (by omega)) j1 j2)
          rw [← hg3] at hs3 ⊢
          have hr_g3 := hs3.2
          have d1 : g3 1 0 = g 1 0 := by rw [hs3.1 1 (by omega)]
          have nxt : ∀ many', (0 ≤ many' ∧ many' ≤ t + 1) → (∀ g', Sm g g' → Q (vI (tkN (tickP g set) k m (t + 1) many')) (mkM am B h0 g')) → V E mX7_ticks 5 0 125 [some (.ref am), some (vI set), some (vI k), some (vI many'), some (vI t), some (vI (g 1 0))] [] (mkM am B h0 g3) Q X := by
            intro many' hm' K'
            refine V_iinc dX7_ticks_125 rfl (by decide) ?_
            refine V_goto 32 dX7_ticks_128 (by decide) ?_
            exact ih (t + 1) many' _ (by omega) (by omega) hm' g3 hs3 p39 (fun _ j j1 j2 => by rw [show t + 1 - 1 = t by omega]; exact p36 j j1 j2) K'
          have hPt : 0 < t → ((∃ j, 0 ≤ j ∧ j < g3 1 0 ∧ tkP (g3 41) (g3 36) set j) ↔ tickP g set t) := by
            intro t0
            have hj : ∀ j, 0 ≤ j → j < g 1 0 → (tkP (g3 41) (g3 36) set j ↔ tkP (nAt g (t - 1)) (nAt g t) set j) := fun j j1 j2 => by
              refine tkP_c ?_ (p36 j j1 j2)
              rw [p41]; unfold acp; rw [if_pos ⟨j1, j2⟩, Int.add_zero]; exact h36 t0 j j1 j2
            unfold tickP
            rw [d1]
            constructor
            · rintro ⟨j, j1, j2, j3⟩; exact ⟨by omega, j, j1, j2, (hj j j1 j2).1 j3⟩
            · rintro ⟨-, j, j1, j2, j3⟩; exact ⟨j, j1, j2, (hj j j1 j2).2 j3⟩
          unfold tkN at K
          by_cases cp : tickP g set t
          · have t0 : 0 < t := by have := cp.1; omega
            have hP := (hPt t0).2 cp
            simp only [pIf_t cp] at K
            by_cases ck : many = k
            · simp only [if_pos ck] at K
              refine V_iload dX7_ticks_101 rfl ?_
              refine V_if_le 125 dX7_ticks_103 (by decide) (by first | omega | exact hr_g _ _ | decide | exact zAnd_i _ _) (fun c_103 => by exfalso; omega) (fun c_103 => ?_)
              refine V_aload_n dX7_ticks_106 rfl ?_
              refine V_iload_n dX7_ticks_107 rfl ?_
              refine VM_c1 (M' := mX7_isTick) okX7_isTick rfl dX7_ticks_108 q2982 rfl rfl (Nat.le_of_ble_eq_true rfl) (d' := 1) (b1 := 0) (by decide) (by decide) (c_X7_isTick hB hr_g3 (by omega) (fun _ => ?_) (fun q => absurd hP q))
              refine V_if_eq 125 dX7_ticks_111 (by decide) (by first | omega | exact hr_g _ _ | decide | exact zAnd_i _ _) (fun c_111 => absurd c_111 (by decide)) (fun c_111 => ?_)
              refine V_iload_n dX7_ticks_114 rfl ?_
              refine V_iload_n dX7_ticks_115 rfl ?_
              refine V_icmp_ne 122 dX7_ticks_116 (by decide) (by first | omega | exact hr_g _ _ | decide | exact zAnd_i _ _) (by first | omega | exact hr_g _ _ | decide | exact zAnd_i _ _) (fun c_116 => by exfalso; omega) (fun c_116 => ?_)
              refine V_iload dX7_ticks_119 rfl ?_
              exact V_iret dX7_ticks_121 rfl (by exact K g3 hs3)
            · simp only [if_neg ck] at K
              refine V_iload dX7_ticks_101 rfl ?_
              refine V_if_le 125 dX7_ticks_103 (by decide) (by first | omega | exact hr_g _ _ | decide | exact zAnd_i _ _) (fun c_103 => by exfalso; omega) (fun c_103 => ?_)
              refine V_aload_n dX7_ticks_106 rfl ?_
              refine V_iload_n dX7_ticks_107 rfl ?_
              refine VM_c1 (M' := mX7_isTick) okX7_isTick rfl dX7_ticks_108 q2982 rfl rfl (Nat.le_of_ble_eq_true rfl) (d' := 1) (b1 := 0) (by decide) (by decide) (c_X7_isTick hB hr_g3 (by omega) (fun _ => ?_) (fun q => absurd hP q))
              refine V_if_eq 125 dX7_ticks_111 (by decide) (by first | omega | exact hr_g _ _ | decide | exact zAnd_i _ _) (fun c_111 => absurd c_111 (by decide)) (fun c_111 => ?_)
              refine V_iload_n dX7_ticks_114 rfl ?_
              refine V_iload_n dX7_ticks_115 rfl ?_
              refine V_icmp_ne 122 dX7_ticks_116 (by decide) (by first | omega | exact hr_g _ _ | decide | exact zAnd_i _ _) (by first | omega | exact hr_g _ _ | decide | exact zAnd_i _ _) (fun c_116 => ?_) (fun c_116 => by exfalso; omega)
              refine V_iinc dX7_ticks_122 rfl (by decide) ?_
              exact nxt _ (by omega) K
          · simp only [pIf_f cp] at K
            by_cases t0 : 0 < t
            · have hP := fun q => cp ((hPt t0).1 q)
              refine V_iload dX7_ticks_101 rfl ?_
              refine V_if_le 125 dX7_ticks_103 (by decide) (by first | omega | exact hr_g _ _ | decide | exact zAnd_i _ _) (fun c_103 => by exfalso; omega) (fun c_103 => ?_)
              refine V_aload_n dX7_ticks_106 rfl ?_
              refine V_iload_n dX7_ticks_107 rfl ?_
              refine VM_c1 (M' := mX7_isTick) okX7_isTick rfl dX7_ticks_108 q2982 rfl rfl (Nat.le_of_ble_eq_true rfl) (d' := 1) (b1 := 0) (by decide) (by decide) (c_X7_isTick hB hr_g3 (by omega) (fun q => absurd q hP) (fun _ => ?_))
              refine V_if_eq 125 dX7_ticks_111 (by decide) (by first | omega | exact hr_g _ _ | decide | exact zAnd_i _ _) (fun c_111 => ?_) (fun c_111 => absurd c_111 (by decide))
              exact nxt _ (by omega) K
            · refine V_iload dX7_ticks_101 rfl ?_
              refine V_if_le 125 dX7_ticks_103 (by decide) (by first | omega | exact hr_g _ _ | decide | exact zAnd_i _ _) (fun c_103 => ?_) (fun c_103 => by exfalso; omega)
              exact nxt _ (by omega) K
        refine V_aload_n dX7_ticks_85 rfl ?_
        refine VM_geta 39 dX7_ticks_86 q2645 (by decide) rfl ?_
        refine V_iload dX7_ticks_89 rfl ?_
        refine VM_zaldE 39 (g2 39 t) hB dX7_ticks_91 mar39 rfl (by first | omega | (simp [gup, aup]; omega)) (by show _ < (1002 : Int); first | omega | (simp [gup, aup]; omega)) (by decide) rfl ?_
        refine V_if_eq 125 dX7_ticks_92 (by decide) (by first | omega | exact hr_g _ _ | decide | exact zAnd_i _ _) (fun c_92 => by exfalso; omega) (fun c_92 => ?_)
        refine V_aload_n dX7_ticks_95 rfl ?_
        refine V_iload dX7_ticks_96 rfl ?_
        refine VM_v1 (M' := mX7_laysAt) okX7_laysAt rfl dX7_ticks_98 q2935 rfl rfl (Nat.le_of_ble_eq_true rfl) (d' := 4) (b1 := 0) (by decide) (by decide) (c_X7_laysAt hB hr_g2 (by first | omega | exact hr_g _ _ | decide | exact zAnd_i _ _) (hb.same (fun k hk => hs2.1 k (by omega))) (c := c) (by rw [f9]; exact hw) (fun W F S q1 q2 q3 q4 => ?_))
        exact hA W F S q2 q3 q4 q1
      have L46 : V E mX7_ticks 5 0 46 [some (.ref am), some (vI set), some (vI k), some (vI many), some (vI t), some (vI 0)] [] (mkM am B h0 (gset g' 41 (acp (g' 41) (g' 36) 0 0 0))) Q X := by
        refine loop_upI (P := fun i => V E mX7_ticks 5 0 46 [some (.ref am), some (vI set), some (vI k), some (vI many), some (vI t), some (vI i)] [] (mkM am B h0 (gset g' 41 (acp (g' 41) (g' 36) 0 i 0))) Q X) 0 (g 1 0) (fun i i1 i2 ihi => ?_) hb1.1
        have hrA : Rng (gset g' 41 (acp (g' 41) (g' 36) 0 i 0)) := hr_g'.set (hcp i)
        by_cases hi : i = g 1 0
        · subst hi
          refine V_iload dX7_ticks_46 rfl ?_
          refine V_aload_n dX7_ticks_48 rfl ?_
          refine VM_getiE 1 (g' 1 0) dX7_ticks_49 q2607 (by decide) rfl rfl ?_
          refine V_icmp_ge 85 dX7_ticks_52 (by decide) (by first | omega | exact hr_g _ _ | decide | exact zAnd_i _ _) (by first | omega | exact hr_g _ _ | decide | exact zAnd_i _ _) (fun c_52 => ?_) (fun c_52 => by exfalso; omega)
          exact L85
        · have ihi := ihi (by omega)
          rw [← acp_s i1, Int.add_zero] at ihi
          refine V_iload dX7_ticks_46 rfl ?_
          refine V_aload_n dX7_ticks_48 rfl ?_
          refine VM_getiE 1 (g' 1 0) dX7_ticks_49 q2607 (by decide) rfl rfl ?_
          refine V_icmp_ge 85 dX7_ticks_52 (by decide) (by first | omega | exact hr_g _ _ | decide | exact zAnd_i _ _) (by first | omega | exact hr_g _ _ | decide | exact zAnd_i _ _) (fun c_52 => by exfalso; omega) (fun c_52 => ?_)
          refine V_aload_n dX7_ticks_55 rfl ?_
          refine VM_geta 39 dX7_ticks_56 q2645 (by decide) rfl ?_
          refine V_iload dX7_ticks_59 rfl ?_
          refine VM_zaldE 39 (g' 39 t) hB dX7_ticks_61 mar39 rfl (by first | omega | (simp [gup, aup]; omega)) (by show _ < (1002 : Int); first | omega | (simp [gup, aup]; omega)) (by decide) rfl ?_
          refine V_if_eq 85 dX7_ticks_62 (by decide) (by first | omega | exact hr_g _ _ | decide | exact zAnd_i _ _) (fun c_62 => by exfalso; omega) (fun c_62 => ?_)
          refine V_aload_n dX7_ticks_65 rfl ?_
          refine VM_geta 41 dX7_ticks_66 q2647 (by decide) rfl ?_
          refine V_iload dX7_ticks_69 rfl ?_
          refine V_aload_n dX7_ticks_71 rfl ?_
          refine VM_geta 36 dX7_ticks_72 q2642 (by decide) rfl ?_
          refine V_iload dX7_ticks_75 rfl ?_
          refine VM_ialdE 36 (g' 36 i) hB dX7_ticks_77 mar36 rfl (by first | omega | (simp [gup, aup]; omega)) (by show _ < (12 : Int); first | omega | (simp [gup, aup]; omega)) (by decide) rfl ?_
          refine VM_iast 41 hB dX7_ticks_78 mar41 rfl mfa41 (by first | omega | (simp [gup, aup]; omega)) (by show _ < (12 : Int); first | omega | (simp [gup, aup]; omega)) (by decide) ?_
          refine V_iinc dX7_ticks_79 rfl (by decide) ?_
          refine V_goto 46 dX7_ticks_82 (by decide) ?_
          rw [gset_up]; exact ihi
      rw [acp_0, gset_self] at L46
      refine V_iload dX7_ticks_32 rfl ?_
      refine V_aload_n dX7_ticks_34 rfl ?_
      refine VM_geta 9 dX7_ticks_35 q2615 (by decide) rfl ?_
      refine V_iconst dX7_ticks_38 ?_
      refine VM_ialdE 9 (g' 9 0) hB dX7_ticks_39 mar9 rfl (by first | omega | (simp [gup, aup]; omega)) (by show _ < (209 : Int); first | omega | (simp [gup, aup]; omega)) (by decide) rfl ?_
      refine V_icmp_gt 131 dX7_ticks_40 (by decide) (by first | omega | exact hr_g' _ _ | decide) (by first | omega | exact hr_g' _ _ | decide) (fun c_40 => by exfalso; omega) (fun c_40 => ?_)
      refine V_iconst dX7_ticks_43 ?_
      refine V_istore dX7_ticks_44 (by decide) ?_
      exact L46
    · have nT : ¬ isT (g 9) t := fun z => ct (hTt.2.2 z)
      have ht0 : 0 < t := by
        by_cases c0 : t = 0
        · exact absurd (Or.inl c0) nT
        · omega
      have e := wvAt_s hw nT
      have np := nt_tick hw (set := set) nT
      unfold tkN at K
      simp only [pIf_f np] at K
      refine V_iload dX7_ticks_32 rfl ?_
      refine V_aload_n dX7_ticks_34 rfl ?_
      refine VM_geta 9 dX7_ticks_35 q2615 (by decide) rfl ?_
      refine V_iconst dX7_ticks_38 ?_
      refine VM_ialdE 9 (g' 9 0) hB dX7_ticks_39 mar9 rfl (by first | omega | (simp [gup, aup]; omega)) (by show _ < (209 : Int); first | omega | (simp [gup, aup]; omega)) (by decide) rfl ?_
      refine V_icmp_gt 131 dX7_ticks_40 (by decide) (by first | omega | exact hr_g' _ _ | decide) (by first | omega | exact hr_g' _ _ | decide) (fun c_40 => by exfalso; omega) (fun c_40 => ?_)
      refine V_iconst dX7_ticks_43 ?_
      refine V_istore dX7_ticks_44 (by decide) ?_
      refine V_iload dX7_ticks_46 rfl ?_
      refine V_aload_n dX7_ticks_48 rfl ?_
      refine VM_getiE 1 (g' 1 0) dX7_ticks_49 q2607 (by decide) rfl rfl ?_
      refine V_icmp_ge 85 dX7_ticks_52 (by decide) (by first | omega | exact hr_g' _ _ | decide) (by first | omega | exact hr_g' _ _ | decide) (fun c_52 => ?_) (fun c_52 => ?_)
      · refine V_aload_n dX7_ticks_85 rfl ?_
        refine VM_geta 39 dX7_ticks_86 q2645 (by decide) rfl ?_
        refine V_iload dX7_ticks_89 rfl ?_
        refine VM_zaldE 39 (g' 39 t) hB dX7_ticks_91 mar39 rfl (by first | omega | (simp [gup, aup]; omega)) (by show _ < (1002 : Int); first | omega | (simp [gup, aup]; omega)) (by decide) rfl ?_
        refine V_if_eq 125 dX7_ticks_92 (by decide) (by first | omega | exact hr_g' _ _ | decide) (fun c_92 => ?_) (fun c_92 => by exfalso; omega)
        refine V_iinc dX7_ticks_125 rfl (by decide) ?_
        refine V_goto 32 dX7_ticks_128 (by decide) ?_
        exact ih (t + 1) many _ (by omega) (by omega) (by omega) g' hs h39 (fun _ j j1 j2 => by rw [show t + 1 - 1 = t by omega, h36 ht0 j j1 j2]; unfold nAt; rw [e]) K
      · refine V_aload_n dX7_ticks_55 rfl ?_
        refine VM_geta 39 dX7_ticks_56 q2645 (by decide) rfl ?_
        refine V_iload dX7_ticks_59 rfl ?_
        refine VM_zaldE 39 (g' 39 t) hB dX7_ticks_61 mar39 rfl (by first | omega | (simp [gup, aup]; omega)) (by show _ < (1002 : Int); first | omega | (simp [gup, aup]; omega)) (by decide) rfl ?_
        refine V_if_eq 85 dX7_ticks_62 (by decide) (by first | omega | exact hr_g' _ _ | decide) (fun c_62 => ?_) (fun c_62 => by exfalso; omega)
        refine V_aload_n dX7_ticks_85 rfl ?_
        refine VM_geta 39 dX7_ticks_86 q2645 (by decide) rfl ?_
        refine V_iload dX7_ticks_89 rfl ?_
        refine VM_zaldE 39 (g' 39 t) hB dX7_ticks_91 mar39 rfl (by first | omega | (simp [gup, aup]; omega)) (by show _ < (1002 : Int); first | omega | (simp [gup, aup]; omega)) (by decide) rfl ?_
        refine V_if_eq 125 dX7_ticks_92 (by decide) (by first | omega | exact hr_g' _ _ | decide) (fun c_92 => ?_) (fun c_92 => by exfalso; omega)
        refine V_iinc dX7_ticks_125 rfl (by decide) ?_
        refine V_goto 32 dX7_ticks_128 (by decide) ?_
        exact ih (t + 1) many _ (by omega) (by omega) (by omega) g' hs h39 (fun _ j j1 j2 => by rw [show t + 1 - 1 = t by omega, h36 ht0 j j1 j2]; unfold nAt; rw [e]) K
theorem c_X7_ticks (hB : MB am B) (hr_g : Rng g) {set k : Int} (hs : inr set) (hk : inr k) (hb : BI g) {c : Int} (hw : WI c (g 9)) (K : ∀ g', Sm g g' → Q (vI (aTicks g set k)) (mkM am B h0 g')) : V E mX7_ticks 5 0 0 [some (.ref am), some (vI set), some (vI k), none, none, none] [] (mkM am B h0 g) Q X := by
  have hb1 := hb.1
  have w0 := hw.1
  have hz := zShl_12 hb1
  unfold aTicks at K
  by_cases cc : (0 ≤ set ∧ set ≤ zShl 1 (g 1 0) - 1) ∧ -1 ≤ k
  · simp only [if_pos cc] at K
    refine V_iload_n dX7_ticks_0 rfl ?_
    refine V_iconst dX7_ticks_1 ?_
    refine V_iconst dX7_ticks_2 ?_
    refine V_aload_n dX7_ticks_3 rfl ?_
    refine VM_getiE 1 (g 1 0) dX7_ticks_4 q2607 (by decide) rfl rfl ?_
    refine V_ishl dX7_ticks_7 ?_
    refine V_iconst dX7_ticks_8 ?_
    refine V_isub dX7_ticks_9 ?_
    refine VS_c3 (M' := mX7_in) okX7_in dX7_ticks_10 q2762 rfl rfl (Nat.le_of_ble_eq_true rfl) (d' := 1) (b1 := 0) (by decide) (by decide) (c_X7_in (by first | omega | exact hr_g _ _ | decide | exact zAnd_i _ _) (by first | omega | exact hr_g _ _ | decide | exact zAnd_i _ _) (by first | omega | exact hr_g _ _ | decide | exact zAnd_i _ _) (fun c_10 => ?_) (fun c_10 => ?_))
    · refine V_if_eq 21 dX7_ticks_13 (by decide) (by first | omega | exact hr_g _ _ | decide | exact zAnd_i _ _) (fun c_13 => absurd c_13 (by decide)) (fun c_13 => ?_)
      refine V_iload_n dX7_ticks_16 rfl ?_
      refine V_iconst dX7_ticks_17 ?_
      refine V_icmp_ge 23 dX7_ticks_18 (by decide) (by first | omega | exact hr_g _ _ | decide | exact zAnd_i _ _) (by first | omega | exact hr_g _ _ | decide | exact zAnd_i _ _) (fun c_18 => ?_) (fun c_18 => ?_)
      · refine V_aload_n dX7_ticks_23 rfl ?_
        refine VM_v0 (M' := mX7_laysTurns) okX7_laysTurns rfl dX7_ticks_24 q2954 rfl rfl (Nat.le_of_ble_eq_true rfl) (d' := 2) (b1 := 0) (by decide) (by decide) (c_X7_laysTurns hB hr_g hw (fun T hT => ?_))
        refine V_iconst dX7_ticks_27 ?_
        refine V_istore_n dX7_ticks_28 (by decide) ?_
        refine V_iconst dX7_ticks_29 ?_
        refine V_istore dX7_ticks_30 (by decide) ?_
        exact c_tk32 hB hk hb hw hT (g 9 0 + 1).toNat 0 0 _ (by omega) (by omega) (by omega) _ ((Sm.rfl' hr_g).set (by omega) hT.1) rfl (fun z => by omega) K
      · exfalso; omega
    · refine V_if_eq 21 dX7_ticks_13 (by decide) (by first | omega | exact hr_g _ _ | decide | exact zAnd_i _ _) (fun c_13 => ?_) (fun c_13 => absurd c_13 (by decide))
      exfalso; omega
  · simp only [if_neg cc] at K
    have K := K g (Sm.rfl' hr_g)
    refine V_iload_n dX7_ticks_0 rfl ?_
    refine V_iconst dX7_ticks_1 ?_
    refine V_iconst dX7_ticks_2 ?_
    refine V_aload_n dX7_ticks_3 rfl ?_
    refine VM_getiE 1 (g 1 0) dX7_ticks_4 q2607 (by decide) rfl rfl ?_
    refine V_ishl dX7_ticks_7 ?_
    refine V_iconst dX7_ticks_8 ?_
    refine V_isub dX7_ticks_9 ?_
    refine VS_c3 (M' := mX7_in) okX7_in dX7_ticks_10 q2762 rfl rfl (Nat.le_of_ble_eq_true rfl) (d' := 1) (b1 := 0) (by decide) (by decide) (c_X7_in (by first | omega | exact hr_g _ _ | decide | exact zAnd_i _ _) (by first | omega | exact hr_g _ _ | decide | exact zAnd_i _ _) (by first | omega | exact hr_g _ _ | decide | exact zAnd_i _ _) (fun c_10 => ?_) (fun c_10 => ?_))
    · refine V_if_eq 21 dX7_ticks_13 (by decide) (by first | omega | exact hr_g _ _ | decide | exact zAnd_i _ _) (fun c_13 => absurd c_13 (by decide)) (fun c_13 => ?_)
      refine V_iload_n dX7_ticks_16 rfl ?_
      refine V_iconst dX7_ticks_17 ?_
      refine V_icmp_ge 23 dX7_ticks_18 (by decide) (by first | omega | exact hr_g _ _ | decide | exact zAnd_i _ _) (by first | omega | exact hr_g _ _ | decide | exact zAnd_i _ _) (fun c_18 => ?_) (fun c_18 => ?_)
      · exfalso; omega
      · refine V_iconst dX7_ticks_21 ?_
        exact V_iret dX7_ticks_22 rfl (by exact K)
    · refine V_if_eq 21 dX7_ticks_13 (by decide) (by first | omega | exact hr_g _ _ | decide | exact zAnd_i _ _) (fun c_13 => ?_) (fun c_13 => absurd c_13 (by decide))
      refine V_iconst dX7_ticks_21 ?_
      exact V_iret dX7_ticks_22 rfl (by exact K)
def aJump (g : MG) (t : Int) : Int := if 0 ≤ t ∧ t ≤ g 9 0 then bAt (g 9) t else -1
theorem c_X7_jump (hB : MB am B) (hr_g : Rng g) {t : Int} (ht : inr t) {c : Int} (hw : WI c (g 9)) (K : Q (vI (aJump g t)) (mkM am B h0 g)) : V E mX7_jump 3 0 0 [some (.ref am), some (vI t)] [] (mkM am B h0 g) Q X := by
  have w3 := hw.2.2.2.1
  unfold aJump at K
  refine V_aload_n dX7_jump_0 rfl ?_
  refine V_iload_n dX7_jump_1 rfl ?_
  refine VM_c1 (M' := mX7_isTime) okX7_isTime rfl dX7_jump_2 q2931 rfl rfl (Nat.le_of_ble_eq_true rfl) (d' := 2) (b1 := 0) (by decide) (by decide) (c_X7_isTime hB hr_g (by first | omega | exact hr_g _ _ | decide | exact zAnd_i _ _) (fun c_2 => ?_) (fun c_2 => ?_))
  · refine V_if_eq 16 dX7_jump_5 (by decide) (by first | omega | exact hr_g _ _ | decide | exact zAnd_i _ _) (fun c_5 => absurd c_5 (by decide)) (fun c_5 => ?_)
    refine V_aload_n dX7_jump_8 rfl ?_
    refine V_iload_n dX7_jump_9 rfl ?_
    refine VM_c1 (M' := mX7_blockAt) okX7_blockAt rfl dX7_jump_10 q2939 rfl rfl (Nat.le_of_ble_eq_true rfl) (d' := 2) (b1 := 0) (by decide) (by decide) (c_X7_blockAt hB hr_g (by first | omega | exact hr_g _ _ | decide | exact zAnd_i _ _) (by omega) ?_)
    refine V_goto 17 dX7_jump_13 (by decide) ?_
    exact V_iret dX7_jump_17 rfl (by first | (rw [if_pos (by omega)] at K; exact K) | (rw [if_neg (by omega)] at K; exact K))
  · refine V_if_eq 16 dX7_jump_5 (by decide) (by first | omega | exact hr_g _ _ | decide | exact zAnd_i _ _) (fun c_5 => ?_) (fun c_5 => absurd c_5 (by decide))
    refine V_iconst dX7_jump_16 ?_
    exact V_iret dX7_jump_17 rfl (by first | (rw [if_pos (by omega)] at K; exact K) | (rw [if_neg (by omega)] at K; exact K))
theorem c_X7_isBlock (hB : MB am B) (hr_g : Rng g) {b : Int} (hb : inr b) (h3 : 0 ≤ g 9 3 ∧ g 9 3 ≤ 6) (Kt : 0 ≤ b ∧ b < g 9 3 → Q (vI 1) (mkM am B h0 g)) (Kf : ¬ (0 ≤ b ∧ b < g 9 3) → Q (vI 0) (mkM am B h0 g)) : V E mX7_isBlock 2 0 0 [some (.ref am), some (vI b)] [] (mkM am B h0 g) Q X := by
  refine V_iload_n dX7_isBlock_0 rfl ?_
  refine V_iconst dX7_isBlock_1 ?_
  refine V_aload_n dX7_isBlock_2 rfl ?_
  refine VM_geta 9 dX7_isBlock_3 q2615 (by decide) rfl ?_
  refine V_iconst dX7_isBlock_6 ?_
  refine VM_ialdE 9 (g 9 3) hB dX7_isBlock_7 mar9 rfl (by first | omega | (simp [gup, aup]; omega)) (by show _ < (209 : Int); first | omega | (simp [gup, aup]; omega)) (by decide) rfl ?_
  refine V_iconst dX7_isBlock_8 ?_
  refine V_isub dX7_isBlock_9 ?_
  refine VS_c3 (M' := mX7_in) okX7_in dX7_isBlock_10 q2762 rfl rfl (Nat.le_of_ble_eq_true rfl) (d' := 1) (b1 := 0) (by decide) (by decide) (c_X7_in (by first | omega | exact hr_g _ _ | decide | exact zAnd_i _ _) (by first | omega | exact hr_g _ _ | decide | exact zAnd_i _ _) (by first | omega | exact hr_g _ _ | decide | exact zAnd_i _ _) (fun c_10 => ?_) (fun c_10 => ?_))
  · exact V_zret dX7_isBlock_13 rfl (by first | decide | omega) (by first | exact Kt (by omega) | exact Kf (by omega))
  · exact V_zret dX7_isBlock_13 rfl (by first | decide | omega) (by first | exact Kt (by omega) | exact Kf (by omega))
end M25
