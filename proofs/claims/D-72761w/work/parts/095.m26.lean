/-! THE REFERENCE'S METHODS, part 26: delays -/
def dlP (P R : Int → Prop) (T d : Int) : Prop := (∃ t, 0 ≤ t ∧ t + d ≤ T ∧ P t) ∧ ∀ t, 0 ≤ t → t + d ≤ T → P t → R (t + d)
noncomputable def aDelay (g : MG) (a b : Int) : Int := pIf ((0 ≤ a ∧ a < g 1 0) ∧ (0 ≤ b ∧ b < g 1 0)) (fstP (dlP (fun t => edP (fun u => nAt g u a) t 0) (fun t => edP (fun u => nAt g u b) t 0) (g 9 0)) 51 0) (-1)
def FO (g : MG) (P : Int → Prop) (m : Int) (F : Int → Int) : Prop := ∀ u, 0 ≤ u → u < m → (F u = 0 ∨ F u = 1) ∧ (F u = 1 ↔ P u)
section M26
variable {E : Ev} {am : Nat} {B : Nat → Nat} {h0 h : AH} {g : MG} {Q : Value → AH → Prop} {X : Nat → AH → Prop}
theorem c_dl25 (hB : MB am B) {a b : Int} {v4 v5 v6 : Option Value} (hb : BI g) {c : Int} (hw : WI c (g 9)) (K : ∀ g', Sm g g' → FO g (fun t => edP (fun u => nAt g u a) t 0) (g 9 0 + 1) (g' 42) → V E mX7_delay 6 0 53 [some (.ref am), some (vI a), some (vI b), some (vI (g 9 0 + 1)), v4, v5, v6] [] (mkM am B h0 g') Q X) : ∀ (m : Nat) (t : Int), t + m = g 9 0 + 1 → 0 ≤ t → ∀ g', Sm g g' → LnO g a (g' 40) → FO g (fun t => edP (fun u => nAt g u a) t 0) t (g' 42) → V E mX7_delay 6 0 25 [some (.ref am), some (vI a), some (vI b), some (vI t), v4, v5, v6] [] (mkM am B h0 g') Q X := by
  have w0 := hw.1
  intro m
  induction m with
  | zero =>
    intro t ht h1 g' hs hL hF
    have hr_g' := hs.2
    have e9 : g' 9 = g 9 := hs.1 9 (by omega)
    have e90 : g' 9 0 = g 9 0 := by rw [e9]
    have et : t = g 9 0 + 1 := by omega
    subst et
    refine V_iload_n dX7_delay_25 rfl ?_
    refine V_aload_n dX7_delay_26 rfl ?_
    refine VM_geta 9 dX7_delay_27 q2615 (by decide) rfl ?_
    refine V_iconst dX7_delay_30 ?_
    refine VM_ialdE 9 (g' 9 0) hB dX7_delay_31 mar9 rfl (by first | omega | (simp [gup, aup]; omega)) (by show _ < (209 : Int); first | omega | (simp [gup, aup]; omega)) (by decide) rfl ?_
    refine V_icmp_gt 53 dX7_delay_32 (by decide) (by first | omega | exact hr_g' _ _ | decide) (by first | omega | exact hr_g' _ _ | decide) (fun c_32 => ?_) (fun c_32 => by exfalso; omega)
    exact K g' hs hF
  | succ m ih =>
    intro t ht h1 g' hs hL hF
    have hr_g' := hs.2
    have e9 : g' 9 = g 9 := hs.1 9 (by omega)
    have e90 : g' 9 0 = g 9 0 := by rw [e9]
    have hc := edP_c (k := 0) (t := t) hL (by omega)
    have nx : ∀ v : Int, (v = 0 ∨ v = 1) → (v = 1 ↔ edP (g' 40) t 0) → V E mX7_delay 6 0 25 [some (.ref am), some (vI a), some (vI b), some (vI (t + 1)), v4, v5, v6] [] (mkM am B h0 (gup g' 42 t v)) Q X := by
      intro v hv hvi
      refine ih (t + 1) (by omega) (by omega) _ (hs.up (by omega) (by constructor <;> omega)) (by rw [gup_ne (by omega)]; exact hL) (fun u u1 u2 => ?_)
      rw [gup_k]
      by_cases cu : u = t
      · subst cu; rw [aup_eq]; exact ⟨hv, hvi.trans hc⟩
      · rw [aup_nn cu]; exact hF u u1 (by omega)
    refine V_iload_n dX7_delay_25 rfl ?_
    refine V_aload_n dX7_delay_26 rfl ?_
    refine VM_geta 9 dX7_delay_27 q2615 (by decide) rfl ?_
    refine V_iconst dX7_delay_30 ?_
    refine VM_ialdE 9 (g' 9 0) hB dX7_delay_31 mar9 rfl (by first | omega | (simp [gup, aup]; omega)) (by show _ < (209 : Int); first | omega | (simp [gup, aup]; omega)) (by decide) rfl ?_
    refine V_icmp_gt 53 dX7_delay_32 (by decide) (by first | omega | exact hr_g' _ _ | decide) (by first | omega | exact hr_g' _ _ | decide) (fun c_32 => by exfalso; omega) (fun c_32 => ?_)
    refine V_aload_n dX7_delay_35 rfl ?_
    refine VM_geta 42 dX7_delay_36 q2648 (by decide) rfl ?_
    refine V_iload_n dX7_delay_39 rfl ?_
    refine V_aload_n dX7_delay_40 rfl ?_
    refine V_iload_n dX7_delay_41 rfl ?_
    refine V_iconst dX7_delay_42 ?_
    refine VM_c2 (M' := mX7_isEdge) okX7_isEdge rfl dX7_delay_43 q2958 rfl rfl (Nat.le_of_ble_eq_true rfl) (d' := 1) (b1 := 0) (by decide) (by decide) (c_X7_isEdge hB hr_g' (by first | omega | exact hr_g' _ _ | decide) (by first | omega | (simp [gup, aup]; omega)) (by first | omega | exact hr_g' _ _ | decide) (fun c_43 => ?_) (fun c_43 => ?_))
    · refine VM_zast 42 hB dX7_delay_46 mar42 rfl mfa42 (by first | decide | omega) (by first | omega | (simp [gup, aup]; omega)) (by show _ < (1000 : Int); first | omega | (simp [gup, aup]; omega)) (by decide) ?_
      refine V_iinc dX7_delay_47 rfl (by decide) ?_
      refine V_goto 25 dX7_delay_50 (by decide) ?_
      first | exact nx 1 (Or.inr rfl) ⟨fun _ => c_43, fun _ => rfl⟩ | exact nx 0 (Or.inl rfl) ⟨fun q => absurd q (by decide), fun q => absurd q c_43⟩
    · refine VM_zast 42 hB dX7_delay_46 mar42 rfl mfa42 (by first | decide | omega) (by first | omega | (simp [gup, aup]; omega)) (by show _ < (1000 : Int); first | omega | (simp [gup, aup]; omega)) (by decide) ?_
      refine V_iinc dX7_delay_47 rfl (by decide) ?_
      refine V_goto 25 dX7_delay_50 (by decide) ?_
      first | exact nx 1 (Or.inr rfl) ⟨fun _ => c_43, fun _ => rfl⟩ | exact nx 0 (Or.inl rfl) ⟨fun q => absurd q (by decide), fun q => absurd q c_43⟩
theorem c_dl75 (hB : MB am B) {a b d : Int} (hd : 0 ≤ d ∧ d ≤ 50) {P R : Int → Prop} (hr_g : Rng g) (h0t : 0 ≤ g 9 0 ∧ g 9 0 ≤ 999) (hF : FO g P (g 9 0 + 1) (g 42)) (hR : ∀ t, 0 ≤ t → t ≤ g 9 0 → (edP (g 40) t 0 ↔ R t)) (K : ∀ x y v6, (x = 0 ∨ x = 1) → (y = 0 ∨ y = 1) → (x = 1 ↔ ∃ t, 0 ≤ t ∧ t + d ≤ g 9 0 ∧ P t) → (y = 1 ↔ ∃ t, 0 ≤ t ∧ t + d ≤ g 9 0 ∧ P t ∧ ¬ R (t + d)) → V E mX7_delay 6 0 150 [some (.ref am), some (vI a), some (vI b), some (vI d), some (vI x), some (vI y), v6] [] (mkM am B h0 g) Q X) : ∀ (m : Nat) (t x y : Int), t + m = 1000 → 0 ≤ t → (x = 0 ∨ x = 1) → (y = 0 ∨ y = 1) → (x = 1 ↔ ∃ u, 0 ≤ u ∧ u < t ∧ u + d ≤ g 9 0 ∧ P u) → (y = 1 ↔ ∃ u, 0 ≤ u ∧ u < t ∧ u + d ≤ g 9 0 ∧ P u ∧ ¬ R (u + d)) → V E mX7_delay 6 0 75 [some (.ref am), some (vI a), some (vI b), some (vI d), some (vI x), some (vI y), some (vI t)] [] (mkM am B h0 g) Q X := by
  intro m
  induction m with
  | zero =>
    intro t x y h1 h2 hx hy hxi hyi
    refine V_iload dX7_delay_75 rfl ?_
    refine V_iload_n dX7_delay_77 rfl ?_
    refine V_iadd dX7_delay_78 ?_
    refine V_aload_n dX7_delay_79 rfl ?_
    refine VM_geta 9 dX7_delay_80 q2615 (by decide) rfl ?_
    refine V_iconst dX7_delay_83 ?_
    refine VM_ialdE 9 (g 9 0) hB dX7_delay_84 mar9 rfl (by first | omega | (simp [gup, aup]; omega)) (by show _ < (209 : Int); first | omega | (simp [gup, aup]; omega)) (by decide) rfl ?_
    refine V_icmp_gt 150 dX7_delay_85 (by decide) (by first | omega | exact hr_g _ _ | decide) (by first | omega | exact hr_g _ _ | decide) (fun c_85 => ?_) (fun c_85 => by exfalso; omega)
    exact K x y _ hx hy (hxi.trans ⟨fun ⟨u, u1, u2, u3, u4⟩ => ⟨u, u1, u3, u4⟩, fun ⟨u, u1, u3, u4⟩ => ⟨u, u1, by omega, u3, u4⟩⟩) (hyi.trans ⟨fun ⟨u, u1, u2, u3, u4⟩ => ⟨u, u1, u3, u4⟩, fun ⟨u, u1, u3, u4⟩ => ⟨u, u1, by omega, u3, u4⟩⟩)
  | succ m ih =>
    intro t x y h1 h2 hx hy hxi hyi
    by_cases ct : g 9 0 < t + d
    · refine V_iload dX7_delay_75 rfl ?_
      refine V_iload_n dX7_delay_77 rfl ?_
      refine V_iadd dX7_delay_78 ?_
      refine V_aload_n dX7_delay_79 rfl ?_
      refine VM_geta 9 dX7_delay_80 q2615 (by decide) rfl ?_
      refine V_iconst dX7_delay_83 ?_
      refine VM_ialdE 9 (g 9 0) hB dX7_delay_84 mar9 rfl (by first | omega | (simp [gup, aup]; omega)) (by show _ < (209 : Int); first | omega | (simp [gup, aup]; omega)) (by decide) rfl ?_
      refine V_icmp_gt 150 dX7_delay_85 (by decide) (by first | omega | exact hr_g _ _ | decide) (by first | omega | exact hr_g _ _ | decide) (fun c_85 => ?_) (fun c_85 => by exfalso; omega)
      exact K x y _ hx hy (hxi.trans ⟨fun ⟨u, u1, u2, u3, u4⟩ => ⟨u, u1, u3, u4⟩, fun ⟨u, u1, u3, u4⟩ => ⟨u, u1, by omega, u3, u4⟩⟩) (hyi.trans ⟨fun ⟨u, u1, u2, u3, u4⟩ => ⟨u, u1, u3, u4⟩, fun ⟨u, u1, u3, u4⟩ => ⟨u, u1, by omega, u3, u4⟩⟩)
    · have hFt := hF t h2 (by omega)
      have hRt := hR (t + d) (by omega) (by omega)
      have wx : ∀ w : Int, (w = 1 ↔ (x = 1 ∨ P t)) → (w = 1 ↔ ∃ u, 0 ≤ u ∧ u < t + 1 ∧ u + d ≤ g 9 0 ∧ P u) := by
        intro w hw
        rw [hw, hxi]
        constructor
        · rintro (⟨u, u1, u2, u3, u4⟩ | q)
          · exact ⟨u, u1, by omega, u3, u4⟩
          · exact ⟨t, h2, by omega, by omega, q⟩
        · rintro ⟨u, u1, u2, u3, u4⟩
          by_cases cu : u = t
          · subst cu; exact Or.inr u4
          · exact Or.inl ⟨u, u1, by omega, u3, u4⟩
      have wy : ∀ w : Int, (w = 1 ↔ (y = 1 ∨ (P t ∧ ¬ R (t + d)))) → (w = 1 ↔ ∃ u, 0 ≤ u ∧ u < t + 1 ∧ u + d ≤ g 9 0 ∧ P u ∧ ¬ R (u + d)) := by
        intro w hw
        rw [hw, hyi]
        constructor
        · rintro (⟨u, u1, u2, u3, u4⟩ | q)
          · exact ⟨u, u1, by omega, u3, u4⟩
          · exact ⟨t, h2, by omega, by omega, q⟩
        · rintro ⟨u, u1, u2, u3, u4⟩
          by_cases cu : u = t
          · subst cu; exact Or.inr u4
          · exact Or.inl ⟨u, u1, by omega, u3, u4⟩
      clear hxi hyi
      have L110 : ∀ w : Int, (w = 0 ∨ w = 1) → (w = 1 ↔ (x = 1 ∨ P t)) → V E mX7_delay 6 0 110 [some (.ref am), some (vI a), some (vI b), some (vI d), some (vI w), some (vI y), some (vI t)] [] (mkM am B h0 g) Q X := by
        intro w hw hwi
        have fin : ∀ z : Int, (z = 0 ∨ z = 1) → (z = 1 ↔ (y = 1 ∨ (P t ∧ ¬ R (t + d)))) → V E mX7_delay 6 0 144 [some (.ref am), some (vI a), some (vI b), some (vI d), some (vI w), some (vI z), some (vI t)] [] (mkM am B h0 g) Q X := by
          intro z hz hzi
          refine V_iinc dX7_delay_144 rfl (by decide) ?_
          refine V_goto 75 dX7_delay_147 (by decide) ?_
          exact ih (t + 1) w z (by omega) (by omega) hw hz (wx w hwi) (wy z hzi)
        refine V_iload dX7_delay_110 rfl ?_
        refine V_if_ne 137 dX7_delay_112 (by decide) (by first | omega | exact hr_g _ _ | decide) (fun c_112 => ?_) (fun c_112 => ?_)
        · refine V_iconst dX7_delay_137 ?_; refine V_goto 142 dX7_delay_138 (by decide) ?_; refine V_istore dX7_delay_142 (by decide) ?_; refine fin 1 (Or.inr rfl) ⟨fun _ => ?_, fun _ => rfl⟩; first | exact Or.inl (by omega) | exact Or.inr ⟨hFt.2.1 (by omega), fun q => c_131 (hRt.2 q)⟩
        · refine V_aload_n dX7_delay_115 rfl ?_
          refine VM_geta 42 dX7_delay_116 q2648 (by decide) rfl ?_
          refine V_iload dX7_delay_119 rfl ?_
          refine VM_zaldE 42 (g 42 t) hB dX7_delay_121 mar42 rfl (by first | omega | (simp [gup, aup]; omega)) (by show _ < (1000 : Int); first | omega | (simp [gup, aup]; omega)) (by decide) rfl ?_
          refine V_if_eq 141 dX7_delay_122 (by decide) (by first | omega | exact hr_g _ _ | decide) (fun c_122 => ?_) (fun c_122 => ?_)
          · refine V_iconst dX7_delay_141 ?_; refine V_istore dX7_delay_142 (by decide) ?_; refine fin 0 (Or.inl rfl) ⟨fun q => absurd q (by decide), fun q => ?_⟩; exfalso; rcases q with q | ⟨q1, q2⟩; (omega); (first | exact q2 (hRt.1 c_131) | (have := hFt.2.2 q1; omega))
          · refine V_aload_n dX7_delay_125 rfl ?_
            refine V_iload dX7_delay_126 rfl ?_
            refine V_iload_n dX7_delay_128 rfl ?_
            refine V_iadd dX7_delay_129 ?_
            refine V_iconst dX7_delay_130 ?_
            refine VM_c2 (M' := mX7_isEdge) okX7_isEdge rfl dX7_delay_131 q2958 rfl rfl (Nat.le_of_ble_eq_true rfl) (d' := 1) (b1 := 0) (by decide) (by decide) (c_X7_isEdge hB hr_g (by first | omega | exact hr_g _ _ | decide) (by first | omega | (simp [gup, aup]; omega)) (by first | omega | exact hr_g _ _ | decide) (fun c_131 => ?_) (fun c_131 => ?_))
            · refine V_if_ne 141 dX7_delay_134 (by decide) (by first | omega | exact hr_g _ _ | decide) (fun c_134 => ?_) (fun c_134 => absurd c_134 (by decide))
              refine V_iconst dX7_delay_141 ?_; refine V_istore dX7_delay_142 (by decide) ?_; refine fin 0 (Or.inl rfl) ⟨fun q => absurd q (by decide), fun q => ?_⟩; exfalso; rcases q with q | ⟨q1, q2⟩; (omega); (first | exact q2 (hRt.1 c_131) | (have := hFt.2.2 q1; omega))
            · refine V_if_ne 141 dX7_delay_134 (by decide) (by first | omega | exact hr_g _ _ | decide) (fun c_134 => absurd c_134 (by decide)) (fun c_134 => ?_)
              refine V_iconst dX7_delay_137 ?_; refine V_goto 142 dX7_delay_138 (by decide) ?_; refine V_istore dX7_delay_142 (by decide) ?_; refine fin 1 (Or.inr rfl) ⟨fun _ => ?_, fun _ => rfl⟩; first | exact Or.inl (by omega) | exact Or.inr ⟨hFt.2.1 (by omega), fun q => c_131 (hRt.2 q)⟩
      refine V_iload dX7_delay_75 rfl ?_
      refine V_iload_n dX7_delay_77 rfl ?_
      refine V_iadd dX7_delay_78 ?_
      refine V_aload_n dX7_delay_79 rfl ?_
      refine VM_geta 9 dX7_delay_80 q2615 (by decide) rfl ?_
      refine V_iconst dX7_delay_83 ?_
      refine VM_ialdE 9 (g 9 0) hB dX7_delay_84 mar9 rfl (by first | omega | (simp [gup, aup]; omega)) (by show _ < (209 : Int); first | omega | (simp [gup, aup]; omega)) (by decide) rfl ?_
      refine V_icmp_gt 150 dX7_delay_85 (by decide) (by first | omega | exact hr_g _ _ | decide) (by first | omega | exact hr_g _ _ | decide) (fun c_85 => by exfalso; omega) (fun c_85 => ?_)
      refine V_iload dX7_delay_88 rfl ?_
      refine V_if_ne 103 dX7_delay_90 (by decide) (by first | omega | exact hr_g _ _ | decide) (fun c_90 => ?_) (fun c_90 => ?_)
      · refine V_iconst dX7_delay_103 ?_; refine V_goto 108 dX7_delay_104 (by decide) ?_; refine V_istore dX7_delay_108 (by decide) ?_; refine L110 1 (Or.inr rfl) ⟨fun _ => ?_, fun _ => rfl⟩; first | exact Or.inl (by omega) | exact Or.inr (hFt.2.1 (by omega))
      · refine V_aload_n dX7_delay_93 rfl ?_
        refine VM_geta 42 dX7_delay_94 q2648 (by decide) rfl ?_
        refine V_iload dX7_delay_97 rfl ?_
        refine VM_zaldE 42 (g 42 t) hB dX7_delay_99 mar42 rfl (by first | omega | (simp [gup, aup]; omega)) (by show _ < (1000 : Int); first | omega | (simp [gup, aup]; omega)) (by decide) rfl ?_
        refine V_if_eq 107 dX7_delay_100 (by decide) (by first | omega | exact hr_g _ _ | decide) (fun c_100 => ?_) (fun c_100 => ?_)
        · refine V_iconst dX7_delay_107 ?_; refine V_istore dX7_delay_108 (by decide) ?_; refine L110 0 (Or.inl rfl) ⟨fun q => absurd q (by decide), fun q => ?_⟩; exfalso; rcases q with q | q; (omega); (have := hFt.2.2 q; omega)
        · refine V_iconst dX7_delay_103 ?_; refine V_goto 108 dX7_delay_104 (by decide) ?_; refine V_istore dX7_delay_108 (by decide) ?_; refine L110 1 (Or.inr rfl) ⟨fun _ => ?_, fun _ => rfl⟩; first | exact Or.inl (by omega) | exact Or.inr (hFt.2.1 (by omega))
theorem c_dl60 (hB : MB am B) {a b : Int} {P R : Int → Prop} (hr_g : Rng g) (h0t : 0 ≤ g 9 0 ∧ g 9 0 ≤ 999) (hF : FO g P (g 9 0 + 1) (g 42)) (hR : ∀ t, 0 ≤ t → t ≤ g 9 0 → (edP (g 40) t 0 ↔ R t)) : ∀ (m : Nat) (d : Int) (v4 v5 v6 : Option Value), d + m = 51 → 0 ≤ d → Q (vI (fstP (dlP P R (g 9 0)) m d)) (mkM am B h0 g) → V E mX7_delay 6 0 60 [some (.ref am), some (vI a), some (vI b), some (vI d), v4, v5, v6] [] (mkM am B h0 g) Q X := by
  intro m
  induction m with
  | zero =>
    intro d v4 v5 v6 h1 h2 hQ
    have e : d = 51 := by omega
    subst e
    refine V_iload_n dX7_delay_60 rfl ?_
    refine V_bipush dX7_delay_61 (by decide) ?_
    refine V_icmp_ge 168 dX7_delay_63 (by decide) (by first | omega | exact hr_g _ _ | decide) (by first | omega | exact hr_g _ _ | decide) (fun c_63 => ?_) (fun c_63 => absurd c_63 (by decide))
    refine V_bipush dX7_delay_168 (by decide) ?_
    exact V_iret dX7_delay_170 rfl (by exact hQ)
  | succ m ih =>
    intro d v4 v5 v6 h1 h2 hQ
    unfold fstP at hQ
    have L75 : V E mX7_delay 6 0 75 [some (.ref am), some (vI a), some (vI b), some (vI d), some (vI 0), some (vI 0), some (vI 0)] [] (mkM am B h0 g) Q X := by
      refine c_dl75 hB (by omega) hr_g h0t hF hR (fun x y v6 hx hy hxi hyi => ?_) 1000 0 0 0 (by omega) (by omega) (Or.inl rfl) (Or.inl rfl) ⟨fun q => absurd q (by decide), fun ⟨u, u1, u2, _⟩ => by omega⟩ ⟨fun q => absurd q (by decide), fun ⟨u, u1, u2, _⟩ => by omega⟩
      by_cases cd : dlP P R (g 9 0) d
      · rw [pIf_t cd] at hQ
        have hx1 := hxi.2 cd.1
        have hy0 : y = 0 := by
          rcases hy with q | q
          · exact q
          · obtain ⟨t, t1, t2, t3, t4⟩ := hyi.1 q
            exact absurd (cd.2 t t1 t2 t3) t4
        refine V_iload dX7_delay_150 rfl ?_
        refine V_if_eq 162 dX7_delay_152 (by decide) (by first | omega | exact hr_g _ _ | decide) (fun c_152 => by exfalso; omega) (fun c_152 => ?_)
        refine V_iload dX7_delay_155 rfl ?_
        refine V_if_ne 162 dX7_delay_157 (by decide) (by first | omega | exact hr_g _ _ | decide) (fun c_157 => by exfalso; omega) (fun c_157 => ?_)
        refine V_iload_n dX7_delay_160 rfl ?_
        exact V_iret dX7_delay_161 rfl (by exact hQ)
      · rw [pIf_f cd] at hQ
        have hn : ¬ (x = 1 ∧ y = 0) := by
          rintro ⟨q1, q2⟩
          refine cd ⟨hxi.1 q1, fun t t1 t2 t3 => ?_⟩
          exact Classical.byContradiction (fun t4 => by have := hyi.2 ⟨t, t1, t2, t3, t4⟩; omega)
        clear hxi hyi
        refine V_iload dX7_delay_150 rfl ?_
        refine V_if_eq 162 dX7_delay_152 (by decide) (by first | omega | exact hr_g _ _ | decide) (fun c_152 => ?_) (fun c_152 => ?_)
        · refine V_iinc dX7_delay_162 rfl (by decide) ?_
          refine V_goto 60 dX7_delay_165 (by decide) ?_
          exact ih (d + 1) _ _ _ (by omega) (by omega) hQ
        · refine V_iload dX7_delay_155 rfl ?_
          refine V_if_ne 162 dX7_delay_157 (by decide) (by first | omega | exact hr_g _ _ | decide) (fun c_157 => ?_) (fun c_157 => ?_)
          · refine V_iinc dX7_delay_162 rfl (by decide) ?_
            refine V_goto 60 dX7_delay_165 (by decide) ?_
            exact ih (d + 1) _ _ _ (by omega) (by omega) hQ
          · exfalso; omega
    refine V_iload_n dX7_delay_60 rfl ?_
    refine V_bipush dX7_delay_61 (by decide) ?_
    refine V_icmp_ge 168 dX7_delay_63 (by decide) (by first | omega | exact hr_g _ _ | decide) (by first | omega | exact hr_g _ _ | decide) (fun c_63 => by exfalso; omega) (fun c_63 => ?_)
    refine V_iconst dX7_delay_66 ?_
    refine V_istore dX7_delay_67 (by decide) ?_
    refine V_iconst dX7_delay_69 ?_
    refine V_istore dX7_delay_70 (by decide) ?_
    refine V_iconst dX7_delay_72 ?_
    refine V_istore dX7_delay_73 (by decide) ?_
    exact L75
theorem c_X7_delay (hB : MB am B) (hr_g : Rng g) {a b : Int} (ha : inr a) (hbi : inr b) (hb : BI g) {c : Int} (hw : WI c (g 9)) (K : ∀ g', Sm g g' → Q (vI (aDelay g a b)) (mkM am B h0 g')) : V E mX7_delay 6 0 0 [some (.ref am), some (vI a), some (vI b), none, none, none, none] [] (mkM am B h0 g) Q X := by
  have hb1 := hb.1
  have w0 := hw.1
  unfold aDelay at K
  by_cases cc : (0 ≤ a ∧ a < g 1 0) ∧ (0 ≤ b ∧ b < g 1 0)
  · rw [pIf_t cc] at K
    have L53 : ∀ g', Sm g g' → FO g (fun t => edP (fun u => nAt g u a) t 0) (g 9 0 + 1) (g' 42) → V E mX7_delay 6 0 53 [some (.ref am), some (vI a), some (vI b), some (vI (g 9 0 + 1)), none, none, none] [] (mkM am B h0 g') Q X := by
      intro g1 hs1 hF
      have hr_g1 := hs1.2
      have e9 : g1 9 = g 9 := hs1.1 9 (by omega)
      have e1 : g1 1 = g 1 := hs1.1 1 (by omega)
      refine V_aload_n dX7_delay_53 rfl ?_
      refine V_iload_n dX7_delay_54 rfl ?_
      refine VM_v1 (M' := mX7_laysLine) okX7_laysLine rfl dX7_delay_55 q2950 rfl rfl (Nat.le_of_ble_eq_true rfl) (d' := 5) (b1 := 0) (by decide) (by decide) (c_X7_laysLine4 hB hr_g1 (by rw [e1]; exact cc.2) (hb.same (fun k hk => hs1.1 k (by omega))) (c := c) (by rw [e9]; exact hw) (fun g2 hs2 hL => ?_))
      refine V_iconst dX7_delay_58 ?_
      refine V_istore_n dX7_delay_59 (by decide) ?_
      have hs3 := hs1.tr hs2.1; have f9 : g2 9 = g 9 := hs3.1 9 (by omega); have f90 : g2 9 0 = g 9 0 := (by rw [f9]); have K' := K g2 hs3; rw [← f90] at K'; exact c_dl60 hB hs3.2 (by rw [f90]; exact w0) (by rw [hs2.2, f90]; exact hF) (fun t t1 t2 => edP_c (T := g2 9 0) (fun u u1 u2 => (hL u u1 (by rw [e9, ← f90]; exact u2)).trans (nAt_same hb (fun k hk => hs1.1 k (by omega)) cc.2.1 cc.2.2)) t2) 51 0 _ _ _ (by omega) (by omega) K'
    refine V_aload_n dX7_delay_0 rfl ?_
    refine V_iload_n dX7_delay_1 rfl ?_
    refine VM_c1 (M' := mX7_isNode) okX7_isNode rfl dX7_delay_2 q2872 rfl rfl (Nat.le_of_ble_eq_true rfl) (d' := 2) (b1 := 0) (by decide) (by decide) (c_X7_isNode hB hr_g (by first | omega | exact hr_g _ _ | decide) (by first | omega | (simp [gup, aup]; omega)) (fun c_2 => ?_) (fun c_2 => ?_))
    · refine V_if_eq 16 dX7_delay_5 (by decide) (by first | omega | exact hr_g _ _ | decide) (fun c_5 => absurd c_5 (by decide)) (fun c_5 => ?_)
      refine V_aload_n dX7_delay_8 rfl ?_
      refine V_iload_n dX7_delay_9 rfl ?_
      refine VM_c1 (M' := mX7_isNode) okX7_isNode rfl dX7_delay_10 q2872 rfl rfl (Nat.le_of_ble_eq_true rfl) (d' := 2) (b1 := 0) (by decide) (by decide) (c_X7_isNode hB hr_g (by first | omega | exact hr_g _ _ | decide) (by first | omega | (simp [gup, aup]; omega)) (fun c_10 => ?_) (fun c_10 => ?_))
      · refine V_if_ne 18 dX7_delay_13 (by decide) (by first | omega | exact hr_g _ _ | decide) (fun c_13 => ?_) (fun c_13 => absurd c_13 (by decide))
        refine V_aload_n dX7_delay_18 rfl ?_
        refine V_iload_n dX7_delay_19 rfl ?_
        refine VM_v1 (M' := mX7_laysLine) okX7_laysLine rfl dX7_delay_20 q2950 rfl rfl (Nat.le_of_ble_eq_true rfl) (d' := 5) (b1 := 0) (by decide) (by decide) (c_X7_laysLine hB hr_g cc.1 hb hw (fun g' hs hL => ?_))
        refine V_iconst dX7_delay_23 ?_
        refine V_istore_n dX7_delay_24 (by decide) ?_
        exact c_dl25 hB hb hw L53 (g 9 0 + 1).toNat 0 (by omega) (by omega) g' hs hL (fun u u1 u2 => by omega)
      · refine V_if_ne 18 dX7_delay_13 (by decide) (by first | omega | exact hr_g _ _ | decide) (fun c_13 => absurd c_13 (by decide)) (fun c_13 => ?_)
        exfalso; omega
    · refine V_if_eq 16 dX7_delay_5 (by decide) (by first | omega | exact hr_g _ _ | decide) (fun c_5 => ?_) (fun c_5 => absurd c_5 (by decide))
      exfalso; omega
  · rw [pIf_f cc] at K
    have K := K g (Sm.rfl' hr_g)
    refine V_aload_n dX7_delay_0 rfl ?_
    refine V_iload_n dX7_delay_1 rfl ?_
    refine VM_c1 (M' := mX7_isNode) okX7_isNode rfl dX7_delay_2 q2872 rfl rfl (Nat.le_of_ble_eq_true rfl) (d' := 2) (b1 := 0) (by decide) (by decide) (c_X7_isNode hB hr_g (by first | omega | exact hr_g _ _ | decide) (by first | omega | (simp [gup, aup]; omega)) (fun c_2 => ?_) (fun c_2 => ?_))
    · refine V_if_eq 16 dX7_delay_5 (by decide) (by first | omega | exact hr_g _ _ | decide) (fun c_5 => absurd c_5 (by decide)) (fun c_5 => ?_)
      refine V_aload_n dX7_delay_8 rfl ?_
      refine V_iload_n dX7_delay_9 rfl ?_
      refine VM_c1 (M' := mX7_isNode) okX7_isNode rfl dX7_delay_10 q2872 rfl rfl (Nat.le_of_ble_eq_true rfl) (d' := 2) (b1 := 0) (by decide) (by decide) (c_X7_isNode hB hr_g (by first | omega | exact hr_g _ _ | decide) (by first | omega | (simp [gup, aup]; omega)) (fun c_10 => ?_) (fun c_10 => ?_))
      · refine V_if_ne 18 dX7_delay_13 (by decide) (by first | omega | exact hr_g _ _ | decide) (fun c_13 => ?_) (fun c_13 => absurd c_13 (by decide))
        exfalso; omega
      · refine V_if_ne 18 dX7_delay_13 (by decide) (by first | omega | exact hr_g _ _ | decide) (fun c_13 => absurd c_13 (by decide)) (fun c_13 => ?_)
        refine V_iconst dX7_delay_16 ?_
        exact V_iret dX7_delay_17 rfl (by exact K)
    · refine V_if_eq 16 dX7_delay_5 (by decide) (by first | omega | exact hr_g _ _ | decide) (fun c_5 => ?_) (fun c_5 => absurd c_5 (by decide))
      refine V_iconst dX7_delay_16 ?_
      exact V_iret dX7_delay_17 rfl (by exact K)
end M26
