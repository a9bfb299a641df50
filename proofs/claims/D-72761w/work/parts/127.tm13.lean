/-! TREES: fixAfterDeletion, II -/
section TM13
variable {E : Ev} {a n i p r x s : Nat} {h hh : AH} {Q : Value → AH → Prop} {X : Nat → AH → Prop} {ad K W : Nat → Nat} {vs cmp nk : Value} {sz mc : Int} {T : TT} {lo hi : Nat → Nat} {zz : Prop} {l1 l2 : Option Value}
theorem delF_71 (P : TH h a n ad K W vs cmp nk sz mc hh T) (S : Tsh n T lo hi) (h0 : i < n) (hp : T 2 i = some p) (hl : T 0 p = some i) (hlo : lo i = 0) (RB : T 3 0 = some p ∨ RBk T) (Z : zz → T 1 0 = none) (K' : KD h a n ad K W vs cmp nk sz mc zz Q)
    (kp : ∀ (hh' : AH) (T' : TT), TH h a n ad K W vs cmp nk sz mc hh' T' → Tsh n T' lo hi → (T' 3 0 = some p ∨ RBk T') → (zz → T' 1 0 = none) → ∀ l2, V E mJ1_fixAfterDeletion 1 0 0 [some (.ref a), some (.ref (ad p)), l2] [] (ovl h a hh') Q X) : V E mJ1_fixAfterDeletion 1 0 71 [some (.ref a), some (.ref (ad i)), some (va_rf (Option.map ad (T 1 p)))] [] (ovl h a hh) Q X := by
  obtain ⟨S0, S1, S2⟩ := id S
  obtain ⟨a1, a2, a3, a4, a5, a6, a7, a8, a9⟩ := S2 i h0
  have hpn := (a9 p hp).1
  obtain ⟨b1, b2, b3, b4, b5, b6, b7, b8, b9⟩ := S2 p hpn
  obtain ⟨d1, d2, d3, d4⟩ := b5 i hl
  rcases hs : T 1 p with _ | s
  · refine V_aload_nN dJ1_fixAfterDeletion_71 rfl ?_
    refine V_invS (M' := mJ1_leftOf) (As := [.null]) (rest := []) okJ1_leftOf dJ1_fixAfterDeletion_72 q693 rfl rfl rfl (Nat.le_of_ble_eq_true rfl) (d' := 0) (b1 := 0) (by first | decide | omega) (by first | decide | omega) (c_J1_leftOfE (o := none) (o' := none) P (fun _ e => by cases e) rfl ?_)
    refine V_invS (M' := mJ1_colorOf) (As := [.null]) (rest := []) okJ1_colorOf dJ1_fixAfterDeletion_75 q699 rfl rfl rfl (Nat.le_of_ble_eq_true rfl) (d' := 0) (b1 := 0) (by first | decide | omega) (by first | decide | omega) (c_J1_colorOf (o := none) P (fun _ e => by cases e) ?_)
    refine V_topE 1 rfl ?_
    refine V_iconst dJ1_fixAfterDeletion_78 ?_
    refine V_icmp_ne 106 dJ1_fixAfterDeletion_79 (by decide) (by first | omega | decide) (by first | omega | decide) (fun c_79 => absurd c_79 (by decide)) (fun c_79 => ?_)
    refine V_aload_nN dJ1_fixAfterDeletion_82 rfl ?_
    refine V_invS (M' := mJ1_rightOf) (As := [.null]) (rest := []) okJ1_rightOf dJ1_fixAfterDeletion_83 q696 rfl rfl rfl (Nat.le_of_ble_eq_true rfl) (d' := 0) (b1 := 0) (by first | decide | omega) (by first | decide | omega) (c_J1_rightOfE (o := none) (o' := none) P (fun _ e => by cases e) rfl ?_)
    refine V_invS (M' := mJ1_colorOf) (As := [.null]) (rest := []) okJ1_colorOf dJ1_fixAfterDeletion_86 q699 rfl rfl rfl (Nat.le_of_ble_eq_true rfl) (d' := 0) (b1 := 0) (by first | decide | omega) (by first | decide | omega) (c_J1_colorOf (o := none) P (fun _ e => by cases e) ?_)
    refine V_topE 1 rfl ?_
    refine V_iconst dJ1_fixAfterDeletion_89 ?_
    refine V_icmp_ne 106 dJ1_fixAfterDeletion_90 (by decide) (by first | omega | decide) (by first | omega | decide) (fun c_90 => absurd c_90 (by decide)) (fun c_90 => ?_)
    refine V_aload_nN dJ1_fixAfterDeletion_93 rfl ?_
    refine V_iconst dJ1_fixAfterDeletion_94 ?_
    refine V_invS (M' := mJ1_setColor) (As := [.null, vI 0]) (rest := []) okJ1_setColor dJ1_fixAfterDeletion_95 q702 rfl rfl rfl (Nat.le_of_ble_eq_true rfl) (d' := 0) (b1 := 0) (by first | decide | omega) (by first | decide | omega) (c_J1_setColorE (o := none) (c := none) (T' := T) P (fun _ e => by cases e) rfl (fun hh95_1 P95_1 => ?_))
    refine V_aload_n dJ1_fixAfterDeletion_98 rfl ?_
    refine V_invS (M' := mJ1_parentOf) (As := [.ref (ad i)]) (rest := []) okJ1_parentOf dJ1_fixAfterDeletion_99 q690 rfl rfl rfl (Nat.le_of_ble_eq_true rfl) (d' := 0) (b1 := 0) (by first | decide | omega) (by first | decide | omega) (c_J1_parentOfE (o := some i) (o' := some p) P95_1 (fun _ e => by cases e; exact h0) hp ?_)
    refine V_astore_n dJ1_fixAfterDeletion_102 (by decide) ?_
    refine V_goto 183 dJ1_fixAfterDeletion_103 (by decide) ?_
    refine V_goto 0 dJ1_fixAfterDeletion_183 (by decide) ?_
    exact kp _ _ P95_1 S RB Z _
  · obtain ⟨c1, c2, c3, c4, c5⟩ := b7 s hs
    obtain ⟨e1, e2, e3, e4, e5, e6, e7, e8, e9⟩ := S2 s c2
    have kb : ∀ hh', TH h a n ad K W vs cmp nk sz mc hh' (tup T 4 s none) → ∀ l2, V E mJ1_fixAfterDeletion 1 0 0 [some (.ref a), some (.ref (ad p)), l2] [] (ovl h a hh') Q X := fun hh' P' => kp hh' _ P' (Tsh.col S) (by
      rcases RB with z | z
      · exact Or.inl (by rw [tup_nk (by decide)]; exact z)
      · refine Or.inr (fun r hr => ?_)
        rw [tup_nk (by decide)] at hr
        have hrs : r ≠ s := by
          rintro rfl
          have := (S1 r hr).2.1
          rw [c3] at this; cases this
        rw [tup_ni hrs]
        exact z r hr) (fun z => by rw [tup_nk (by decide)]; exact Z z)
    have kr : ∀ l2 : Nat, T 0 s = some l2 → ∀ hh', TH h a n ad K W vs cmp nk sz mc hh' (rotR (tup (tup T 4 l2 (some 0)) 4 s none) s l2) → V E mJ1_fixAfterDeletion 1 0 143 [some (.ref a), some (.ref (ad i)), some (.ref (ad l2))] [] (ovl h a hh') Q X := by
      intro l2 hl2 hh' P'
      obtain ⟨f1, f2, f3, f4⟩ := e5 l2 hl2
      have S' := Tsh_rotR (Tsh.col (x := none) (i := s) (Tsh.col (x := some 0) (i := l2) S)) c2 (by simp [tup, hl2] : tup (tup T 4 l2 (some 0)) 4 s none 0 s = some l2)
      have fl := S2 l2 (by omega)
      have fll := fl.1
      have ni1 : i ≠ s := by omega
      have ni2 : i ≠ l2 := by omega
      have np1 : p ≠ s := by omega
      have np2 : p ≠ l2 := by omega
      have nli : T 1 l2 ≠ some i := fun e => by
        have := (fl.2.2.2.2.2.2.1 i e).2.2.1
        rw [hp] at this; cases this; omega
      refine delF_143 (p := p) (s := l2) P' S' h0 ?_ ?_ ?_ ?_ ?_ K'
      · simp [rotR, tup, ni1, ni2, nli, hp]
      · simp [rotR, tup, np1, c3, hs, hl]
      · simp [rotR, tup, np2, c3, hs]
      · simp [ni1, hlo]
      · intro z
        have n0 : (0 : Nat) ≠ l2 := by omega
        have n1 : ¬ (p = 0) := by omega
        simp [rotR, tup, n0, c3, n1, Z z]
    have r2i : ∀ l2 : Nat, T 0 s = some l2 → rotR (tup (tup T 4 l2 (some 0)) 4 s none) s l2 2 i = some p := by
      intro l2 hl2
      obtain ⟨f1, f2, f3, f4⟩ := e5 l2 hl2
      have fl := S2 l2 (by omega)
      have fll := fl.1
      have ni1 : i ≠ s := by omega
      have ni2 : i ≠ l2 := by omega
      have nli : T 1 l2 ≠ some i := fun e => by
        have := (fl.2.2.2.2.2.2.1 i e).2.2.1
        rw [hp] at this; cases this; omega
      simp [rotR, tup, ni1, ni2, nli, hp]
    have r1p : ∀ l2 : Nat, T 0 s = some l2 → rotR (tup (tup T 4 l2 (some 0)) 4 s none) s l2 1 p = some l2 := by
      intro l2 hl2
      obtain ⟨f1, f2, f3, f4⟩ := e5 l2 hl2
      have fll := (S2 l2 (by omega)).1
      have np2 : p ≠ l2 := by omega
      simp [rotR, tup, np2, c3, hs]
    rcases hl2 : T 0 s with _ | l2
    · rcases hr2 : T 1 s with _ | r2
      · refine V_aload_n dJ1_fixAfterDeletion_71 rfl ?_
        refine V_invS (M' := mJ1_leftOf) (As := [.ref (ad s)]) (rest := []) okJ1_leftOf dJ1_fixAfterDeletion_72 q693 rfl rfl rfl (Nat.le_of_ble_eq_true rfl) (d' := 0) (b1 := 0) (by first | decide | omega) (by first | decide | omega) (c_J1_leftOfE (o := some s) (o' := none) P (fun _ e => by cases e; exact c2) hl2 ?_)
        refine V_invS (M' := mJ1_colorOf) (As := [.null]) (rest := []) okJ1_colorOf dJ1_fixAfterDeletion_75 q699 rfl rfl rfl (Nat.le_of_ble_eq_true rfl) (d' := 0) (b1 := 0) (by first | decide | omega) (by first | decide | omega) (c_J1_colorOf (o := none) P (fun _ e => by cases e) ?_)
        refine V_topE 1 rfl ?_
        refine V_iconst dJ1_fixAfterDeletion_78 ?_
        refine V_icmp_ne 106 dJ1_fixAfterDeletion_79 (by decide) (by first | omega | decide) (by first | omega | decide) (fun c_79 => absurd c_79 (by decide)) (fun c_79 => ?_)
        refine V_aload_n dJ1_fixAfterDeletion_82 rfl ?_
        refine V_invS (M' := mJ1_rightOf) (As := [.ref (ad s)]) (rest := []) okJ1_rightOf dJ1_fixAfterDeletion_83 q696 rfl rfl rfl (Nat.le_of_ble_eq_true rfl) (d' := 0) (b1 := 0) (by first | decide | omega) (by first | decide | omega) (c_J1_rightOfE (o := some s) (o' := none) P (fun _ e => by cases e; exact c2) hr2 ?_)
        refine V_invS (M' := mJ1_colorOf) (As := [.null]) (rest := []) okJ1_colorOf dJ1_fixAfterDeletion_86 q699 rfl rfl rfl (Nat.le_of_ble_eq_true rfl) (d' := 0) (b1 := 0) (by first | decide | omega) (by first | decide | omega) (c_J1_colorOf (o := none) P (fun _ e => by cases e) ?_)
        refine V_topE 1 rfl ?_
        refine V_iconst dJ1_fixAfterDeletion_89 ?_
        refine V_icmp_ne 106 dJ1_fixAfterDeletion_90 (by decide) (by first | omega | decide) (by first | omega | decide) (fun c_90 => absurd c_90 (by decide)) (fun c_90 => ?_)
        refine V_aload_n dJ1_fixAfterDeletion_93 rfl ?_
        refine V_iconst dJ1_fixAfterDeletion_94 ?_
        refine V_invS (M' := mJ1_setColor) (As := [.ref (ad s), vI 0]) (rest := []) okJ1_setColor dJ1_fixAfterDeletion_95 q702 rfl rfl rfl (Nat.le_of_ble_eq_true rfl) (d' := 0) (b1 := 0) (by first | decide | omega) (by first | decide | omega) (c_J1_setColorE (o := some s) (c := none) (T' := tup T 4 s none) P (fun _ e => by cases e; exact c2) rfl (fun hh95_1 P95_1 => ?_))
        refine V_aload_n dJ1_fixAfterDeletion_98 rfl ?_
        refine V_invS (M' := mJ1_parentOf) (As := [.ref (ad i)]) (rest := []) okJ1_parentOf dJ1_fixAfterDeletion_99 q690 rfl rfl rfl (Nat.le_of_ble_eq_true rfl) (d' := 0) (b1 := 0) (by first | decide | omega) (by first | decide | omega) (c_J1_parentOfE (o := some i) (o' := some p) P95_1 (fun _ e => by cases e; exact h0) ((tup_nk (by decide)).trans hp) ?_)
        refine V_astore_n dJ1_fixAfterDeletion_102 (by decide) ?_
        refine V_goto 183 dJ1_fixAfterDeletion_103 (by decide) ?_
        refine V_goto 0 dJ1_fixAfterDeletion_183 (by decide) ?_
        exact kb _ P95_1 _
      · rcases hcr : T 4 r2 with _ | cr
        · refine V_aload_n dJ1_fixAfterDeletion_71 rfl ?_
          refine V_invS (M' := mJ1_leftOf) (As := [.ref (ad s)]) (rest := []) okJ1_leftOf dJ1_fixAfterDeletion_72 q693 rfl rfl rfl (Nat.le_of_ble_eq_true rfl) (d' := 0) (b1 := 0) (by first | decide | omega) (by first | decide | omega) (c_J1_leftOfE (o := some s) (o' := none) P (fun _ e => by cases e; exact c2) hl2 ?_)
          refine V_invS (M' := mJ1_colorOf) (As := [.null]) (rest := []) okJ1_colorOf dJ1_fixAfterDeletion_75 q699 rfl rfl rfl (Nat.le_of_ble_eq_true rfl) (d' := 0) (b1 := 0) (by first | decide | omega) (by first | decide | omega) (c_J1_colorOf (o := none) P (fun _ e => by cases e) ?_)
          refine V_topE 1 rfl ?_
          refine V_iconst dJ1_fixAfterDeletion_78 ?_
          refine V_icmp_ne 106 dJ1_fixAfterDeletion_79 (by decide) (by first | omega | decide) (by first | omega | decide) (fun c_79 => absurd c_79 (by decide)) (fun c_79 => ?_)
          refine V_aload_n dJ1_fixAfterDeletion_82 rfl ?_
          refine V_invS (M' := mJ1_rightOf) (As := [.ref (ad s)]) (rest := []) okJ1_rightOf dJ1_fixAfterDeletion_83 q696 rfl rfl rfl (Nat.le_of_ble_eq_true rfl) (d' := 0) (b1 := 0) (by first | decide | omega) (by first | decide | omega) (c_J1_rightOfE (o := some s) (o' := some r2) P (fun _ e => by cases e; exact c2) hr2 ?_)
          refine V_invS (M' := mJ1_colorOf) (As := [.ref (ad r2)]) (rest := []) okJ1_colorOf dJ1_fixAfterDeletion_86 q699 rfl rfl rfl (Nat.le_of_ble_eq_true rfl) (d' := 0) (b1 := 0) (by first | decide | omega) (by first | decide | omega) (c_J1_colorOfE (o := some r2) (x := cV none) P (fun _ e => by cases e; exact (e7 r2 hr2).2.1) (congrArg cV hcr) ?_)
          refine V_topE 0 rfl ?_
          refine V_iconst dJ1_fixAfterDeletion_89 ?_
          refine V_icmp_ne 106 dJ1_fixAfterDeletion_90 (by decide) (by first | omega | decide) (by first | omega | decide) (fun c_90 => ?_) (fun c_90 => absurd c_90 (by decide))
          refine V_aload_n dJ1_fixAfterDeletion_106 rfl ?_
          refine V_invS (M' := mJ1_rightOf) (As := [.ref (ad s)]) (rest := []) okJ1_rightOf dJ1_fixAfterDeletion_107 q696 rfl rfl rfl (Nat.le_of_ble_eq_true rfl) (d' := 0) (b1 := 0) (by first | decide | omega) (by first | decide | omega) (c_J1_rightOfE (o := some s) (o' := some r2) P (fun _ e => by cases e; exact c2) hr2 ?_)
          refine V_invS (M' := mJ1_colorOf) (As := [.ref (ad r2)]) (rest := []) okJ1_colorOf dJ1_fixAfterDeletion_110 q699 rfl rfl rfl (Nat.le_of_ble_eq_true rfl) (d' := 0) (b1 := 0) (by first | decide | omega) (by first | decide | omega) (c_J1_colorOfE (o := some r2) (x := cV none) P (fun _ e => by cases e; exact (e7 r2 hr2).2.1) (congrArg cV hcr) ?_)
          refine V_topE 0 rfl ?_
          refine V_iconst dJ1_fixAfterDeletion_113 ?_
          refine V_icmp_ne 143 dJ1_fixAfterDeletion_114 (by decide) (by first | omega | decide) (by first | omega | decide) (fun c_114 => ?_) (fun c_114 => absurd c_114 (by decide))
          exact delF_143 P S h0 hp hl hs hlo Z K'
        · refine V_aload_n dJ1_fixAfterDeletion_71 rfl ?_
          refine V_invS (M' := mJ1_leftOf) (As := [.ref (ad s)]) (rest := []) okJ1_leftOf dJ1_fixAfterDeletion_72 q693 rfl rfl rfl (Nat.le_of_ble_eq_true rfl) (d' := 0) (b1 := 0) (by first | decide | omega) (by first | decide | omega) (c_J1_leftOfE (o := some s) (o' := none) P (fun _ e => by cases e; exact c2) hl2 ?_)
          refine V_invS (M' := mJ1_colorOf) (As := [.null]) (rest := []) okJ1_colorOf dJ1_fixAfterDeletion_75 q699 rfl rfl rfl (Nat.le_of_ble_eq_true rfl) (d' := 0) (b1 := 0) (by first | decide | omega) (by first | decide | omega) (c_J1_colorOf (o := none) P (fun _ e => by cases e) ?_)
          refine V_topE 1 rfl ?_
          refine V_iconst dJ1_fixAfterDeletion_78 ?_
          refine V_icmp_ne 106 dJ1_fixAfterDeletion_79 (by decide) (by first | omega | decide) (by first | omega | decide) (fun c_79 => absurd c_79 (by decide)) (fun c_79 => ?_)
          refine V_aload_n dJ1_fixAfterDeletion_82 rfl ?_
          refine V_invS (M' := mJ1_rightOf) (As := [.ref (ad s)]) (rest := []) okJ1_rightOf dJ1_fixAfterDeletion_83 q696 rfl rfl rfl (Nat.le_of_ble_eq_true rfl) (d' := 0) (b1 := 0) (by first | decide | omega) (by first | decide | omega) (c_J1_rightOfE (o := some s) (o' := some r2) P (fun _ e => by cases e; exact c2) hr2 ?_)
          refine V_invS (M' := mJ1_colorOf) (As := [.ref (ad r2)]) (rest := []) okJ1_colorOf dJ1_fixAfterDeletion_86 q699 rfl rfl rfl (Nat.le_of_ble_eq_true rfl) (d' := 0) (b1 := 0) (by first | decide | omega) (by first | decide | omega) (c_J1_colorOfE (o := some r2) (x := cV (some cr)) P (fun _ e => by cases e; exact (e7 r2 hr2).2.1) (congrArg cV hcr) ?_)
          refine V_topE 1 rfl ?_
          refine V_iconst dJ1_fixAfterDeletion_89 ?_
          refine V_icmp_ne 106 dJ1_fixAfterDeletion_90 (by decide) (by first | omega | decide) (by first | omega | decide) (fun c_90 => absurd c_90 (by decide)) (fun c_90 => ?_)
          refine V_aload_n dJ1_fixAfterDeletion_93 rfl ?_
          refine V_iconst dJ1_fixAfterDeletion_94 ?_
          refine V_invS (M' := mJ1_setColor) (As := [.ref (ad s), vI 0]) (rest := []) okJ1_setColor dJ1_fixAfterDeletion_95 q702 rfl rfl rfl (Nat.le_of_ble_eq_true rfl) (d' := 0) (b1 := 0) (by first | decide | omega) (by first | decide | omega) (c_J1_setColorE (o := some s) (c := none) (T' := tup T 4 s none) P (fun _ e => by cases e; exact c2) rfl (fun hh95_1 P95_1 => ?_))
          refine V_aload_n dJ1_fixAfterDeletion_98 rfl ?_
          refine V_invS (M' := mJ1_parentOf) (As := [.ref (ad i)]) (rest := []) okJ1_parentOf dJ1_fixAfterDeletion_99 q690 rfl rfl rfl (Nat.le_of_ble_eq_true rfl) (d' := 0) (b1 := 0) (by first | decide | omega) (by first | decide | omega) (c_J1_parentOfE (o := some i) (o' := some p) P95_1 (fun _ e => by cases e; exact h0) ((tup_nk (by decide)).trans hp) ?_)
          refine V_astore_n dJ1_fixAfterDeletion_102 (by decide) ?_
          refine V_goto 183 dJ1_fixAfterDeletion_103 (by decide) ?_
          refine V_goto 0 dJ1_fixAfterDeletion_183 (by decide) ?_
          exact kb _ P95_1 _
    · rcases hcl : T 4 l2 with _ | cl
      · rcases hr2 : T 1 s with _ | r2
        · refine V_aload_n dJ1_fixAfterDeletion_71 rfl ?_
          refine V_invS (M' := mJ1_leftOf) (As := [.ref (ad s)]) (rest := []) okJ1_leftOf dJ1_fixAfterDeletion_72 q693 rfl rfl rfl (Nat.le_of_ble_eq_true rfl) (d' := 0) (b1 := 0) (by first | decide | omega) (by first | decide | omega) (c_J1_leftOfE (o := some s) (o' := some l2) P (fun _ e => by cases e; exact c2) hl2 ?_)
          refine V_invS (M' := mJ1_colorOf) (As := [.ref (ad l2)]) (rest := []) okJ1_colorOf dJ1_fixAfterDeletion_75 q699 rfl rfl rfl (Nat.le_of_ble_eq_true rfl) (d' := 0) (b1 := 0) (by first | decide | omega) (by first | decide | omega) (c_J1_colorOfE (o := some l2) (x := cV none) P (fun _ e => by cases e; exact (show l2 < n by have := e5 l2 hl2; omega)) (congrArg cV hcl) ?_)
          refine V_topE 0 rfl ?_
          refine V_iconst dJ1_fixAfterDeletion_78 ?_
          refine V_icmp_ne 106 dJ1_fixAfterDeletion_79 (by decide) (by first | omega | decide) (by first | omega | decide) (fun c_79 => ?_) (fun c_79 => absurd c_79 (by decide))
          refine V_aload_n dJ1_fixAfterDeletion_106 rfl ?_
          refine V_invS (M' := mJ1_rightOf) (As := [.ref (ad s)]) (rest := []) okJ1_rightOf dJ1_fixAfterDeletion_107 q696 rfl rfl rfl (Nat.le_of_ble_eq_true rfl) (d' := 0) (b1 := 0) (by first | decide | omega) (by first | decide | omega) (c_J1_rightOfE (o := some s) (o' := none) P (fun _ e => by cases e; exact c2) hr2 ?_)
          refine V_invS (M' := mJ1_colorOf) (As := [.null]) (rest := []) okJ1_colorOf dJ1_fixAfterDeletion_110 q699 rfl rfl rfl (Nat.le_of_ble_eq_true rfl) (d' := 0) (b1 := 0) (by first | decide | omega) (by first | decide | omega) (c_J1_colorOf (o := none) P (fun _ e => by cases e) ?_)
          refine V_topE 1 rfl ?_
          refine V_iconst dJ1_fixAfterDeletion_113 ?_
          refine V_icmp_ne 143 dJ1_fixAfterDeletion_114 (by decide) (by first | omega | decide) (by first | omega | decide) (fun c_114 => absurd c_114 (by decide)) (fun c_114 => ?_)
          refine V_aload_n dJ1_fixAfterDeletion_117 rfl ?_
          refine V_invS (M' := mJ1_leftOf) (As := [.ref (ad s)]) (rest := []) okJ1_leftOf dJ1_fixAfterDeletion_118 q693 rfl rfl rfl (Nat.le_of_ble_eq_true rfl) (d' := 0) (b1 := 0) (by first | decide | omega) (by first | decide | omega) (c_J1_leftOfE (o := some s) (o' := some l2) P (fun _ e => by cases e; exact c2) hl2 ?_)
          refine V_iconst dJ1_fixAfterDeletion_121 ?_
          refine V_invS (M' := mJ1_setColor) (As := [.ref (ad l2), vI 1]) (rest := []) okJ1_setColor dJ1_fixAfterDeletion_122 q702 rfl rfl rfl (Nat.le_of_ble_eq_true rfl) (d' := 0) (b1 := 0) (by first | decide | omega) (by first | decide | omega) (c_J1_setColorE (o := some l2) (c := some 0) (T' := tup T 4 l2 (some 0)) P (fun _ e => by cases e; exact (show l2 < n by have := e5 l2 hl2; omega)) rfl (fun hh122_1 P122_1 => ?_))
          refine V_aload_n dJ1_fixAfterDeletion_125 rfl ?_
          refine V_iconst dJ1_fixAfterDeletion_126 ?_
          refine V_invS (M' := mJ1_setColor) (As := [.ref (ad s), vI 0]) (rest := []) okJ1_setColor dJ1_fixAfterDeletion_127 q702 rfl rfl rfl (Nat.le_of_ble_eq_true rfl) (d' := 0) (b1 := 0) (by first | decide | omega) (by first | decide | omega) (c_J1_setColorE (o := some s) (c := none) (T' := tup (tup T 4 l2 (some 0)) 4 s none) P122_1 (fun _ e => by cases e; exact c2) rfl (fun hh127_2 P127_2 => ?_))
          refine V_aload_n dJ1_fixAfterDeletion_130 rfl ?_
          refine V_aload_n dJ1_fixAfterDeletion_131 rfl ?_
          refine V_invVc (M' := mJ1_rotateRight) (As := [.ref (ad s)]) (rest := []) okJ1_rotateRight dJ1_fixAfterDeletion_132 q709 rfl rfl (clsE.o P127_2.ob) rfl rfl (Nat.le_of_ble_eq_true rfl) (d' := 0) (b1 := 0) (by first | decide | omega) (by first | decide | omega) (c_J1_rotateRight P127_2 (Tsh.col (x := none) (i := s) (Tsh.col (x := some 0) (i := l2) S)) c2 ((tup_nk (by decide)).trans ((tup_nk (by decide)).trans hl2)) (fun hh132_3 P132_3 => ?_))
          refine V_aload_n dJ1_fixAfterDeletion_135 rfl ?_
          refine V_invS (M' := mJ1_parentOf) (As := [.ref (ad i)]) (rest := []) okJ1_parentOf dJ1_fixAfterDeletion_136 q690 rfl rfl rfl (Nat.le_of_ble_eq_true rfl) (d' := 0) (b1 := 0) (by first | decide | omega) (by first | decide | omega) (c_J1_parentOfE (o := some i) (o' := some p) P132_3 (fun _ e => by cases e; exact h0) (r2i l2 hl2) ?_)
          refine V_invS (M' := mJ1_rightOf) (As := [.ref (ad p)]) (rest := []) okJ1_rightOf dJ1_fixAfterDeletion_139 q696 rfl rfl rfl (Nat.le_of_ble_eq_true rfl) (d' := 0) (b1 := 0) (by first | decide | omega) (by first | decide | omega) (c_J1_rightOfE (o := some p) (o' := some l2) P132_3 (fun _ e => by cases e; exact hpn) (r1p l2 hl2) ?_)
          refine V_astore_n dJ1_fixAfterDeletion_142 (by decide) ?_
          exact kr l2 hl2 _ P132_3
        · rcases hcr : T 4 r2 with _ | cr
          · refine V_aload_n dJ1_fixAfterDeletion_71 rfl ?_
            refine V_invS (M' := mJ1_leftOf) (As := [.ref (ad s)]) (rest := []) okJ1_leftOf dJ1_fixAfterDeletion_72 q693 rfl rfl rfl (Nat.le_of_ble_eq_true rfl) (d' := 0) (b1 := 0) (by first | decide | omega) (by first | decide | omega) (c_J1_leftOfE (o := some s) (o' := some l2) P (fun _ e => by cases e; exact c2) hl2 ?_)
            refine V_invS (M' := mJ1_colorOf) (As := [.ref (ad l2)]) (rest := []) okJ1_colorOf dJ1_fixAfterDeletion_75 q699 rfl rfl rfl (Nat.le_of_ble_eq_true rfl) (d' := 0) (b1 := 0) (by first | decide | omega) (by first | decide | omega) (c_J1_colorOfE (o := some l2) (x := cV none) P (fun _ e => by cases e; exact (show l2 < n by have := e5 l2 hl2; omega)) (congrArg cV hcl) ?_)
            refine V_topE 0 rfl ?_
            refine V_iconst dJ1_fixAfterDeletion_78 ?_
            refine V_icmp_ne 106 dJ1_fixAfterDeletion_79 (by decide) (by first | omega | decide) (by first | omega | decide) (fun c_79 => ?_) (fun c_79 => absurd c_79 (by decide))
            refine V_aload_n dJ1_fixAfterDeletion_106 rfl ?_
            refine V_invS (M' := mJ1_rightOf) (As := [.ref (ad s)]) (rest := []) okJ1_rightOf dJ1_fixAfterDeletion_107 q696 rfl rfl rfl (Nat.le_of_ble_eq_true rfl) (d' := 0) (b1 := 0) (by first | decide | omega) (by first | decide | omega) (c_J1_rightOfE (o := some s) (o' := some r2) P (fun _ e => by cases e; exact c2) hr2 ?_)
            refine V_invS (M' := mJ1_colorOf) (As := [.ref (ad r2)]) (rest := []) okJ1_colorOf dJ1_fixAfterDeletion_110 q699 rfl rfl rfl (Nat.le_of_ble_eq_true rfl) (d' := 0) (b1 := 0) (by first | decide | omega) (by first | decide | omega) (c_J1_colorOfE (o := some r2) (x := cV none) P (fun _ e => by cases e; exact (e7 r2 hr2).2.1) (congrArg cV hcr) ?_)
            refine V_topE 0 rfl ?_
            refine V_iconst dJ1_fixAfterDeletion_113 ?_
            refine V_icmp_ne 143 dJ1_fixAfterDeletion_114 (by decide) (by first | omega | decide) (by first | omega | decide) (fun c_114 => ?_) (fun c_114 => absurd c_114 (by decide))
            exact delF_143 P S h0 hp hl hs hlo Z K'
          · refine V_aload_n dJ1_fixAfterDeletion_71 rfl ?_
            refine V_invS (M' := mJ1_leftOf) (As := [.ref (ad s)]) (rest := []) okJ1_leftOf dJ1_fixAfterDeletion_72 q693 rfl rfl rfl (Nat.le_of_ble_eq_true rfl) (d' := 0) (b1 := 0) (by first | decide | omega) (by first | decide | omega) (c_J1_leftOfE (o := some s) (o' := some l2) P (fun _ e => by cases e; exact c2) hl2 ?_)
            refine V_invS (M' := mJ1_colorOf) (As := [.ref (ad l2)]) (rest := []) okJ1_colorOf dJ1_fixAfterDeletion_75 q699 rfl rfl rfl (Nat.le_of_ble_eq_true rfl) (d' := 0) (b1 := 0) (by first | decide | omega) (by first | decide | omega) (c_J1_colorOfE (o := some l2) (x := cV none) P (fun _ e => by cases e; exact (show l2 < n by have := e5 l2 hl2; omega)) (congrArg cV hcl) ?_)
            refine V_topE 0 rfl ?_
            refine V_iconst dJ1_fixAfterDeletion_78 ?_
            refine V_icmp_ne 106 dJ1_fixAfterDeletion_79 (by decide) (by first | omega | decide) (by first | omega | decide) (fun c_79 => ?_) (fun c_79 => absurd c_79 (by decide))
            refine V_aload_n dJ1_fixAfterDeletion_106 rfl ?_
            refine V_invS (M' := mJ1_rightOf) (As := [.ref (ad s)]) (rest := []) okJ1_rightOf dJ1_fixAfterDeletion_107 q696 rfl rfl rfl (Nat.le_of_ble_eq_true rfl) (d' := 0) (b1 := 0) (by first | decide | omega) (by first | decide | omega) (c_J1_rightOfE (o := some s) (o' := some r2) P (fun _ e => by cases e; exact c2) hr2 ?_)
            refine V_invS (M' := mJ1_colorOf) (As := [.ref (ad r2)]) (rest := []) okJ1_colorOf dJ1_fixAfterDeletion_110 q699 rfl rfl rfl (Nat.le_of_ble_eq_true rfl) (d' := 0) (b1 := 0) (by first | decide | omega) (by first | decide | omega) (c_J1_colorOfE (o := some r2) (x := cV (some cr)) P (fun _ e => by cases e; exact (e7 r2 hr2).2.1) (congrArg cV hcr) ?_)
            refine V_topE 1 rfl ?_
            refine V_iconst dJ1_fixAfterDeletion_113 ?_
            refine V_icmp_ne 143 dJ1_fixAfterDeletion_114 (by decide) (by first | omega | decide) (by first | omega | decide) (fun c_114 => absurd c_114 (by decide)) (fun c_114 => ?_)
            refine V_aload_n dJ1_fixAfterDeletion_117 rfl ?_
            refine V_invS (M' := mJ1_leftOf) (As := [.ref (ad s)]) (rest := []) okJ1_leftOf dJ1_fixAfterDeletion_118 q693 rfl rfl rfl (Nat.le_of_ble_eq_true rfl) (d' := 0) (b1 := 0) (by first | decide | omega) (by first | decide | omega) (c_J1_leftOfE (o := some s) (o' := some l2) P (fun _ e => by cases e; exact c2) hl2 ?_)
            refine V_iconst dJ1_fixAfterDeletion_121 ?_
            refine V_invS (M' := mJ1_setColor) (As := [.ref (ad l2), vI 1]) (rest := []) okJ1_setColor dJ1_fixAfterDeletion_122 q702 rfl rfl rfl (Nat.le_of_ble_eq_true rfl) (d' := 0) (b1 := 0) (by first | decide | omega) (by first | decide | omega) (c_J1_setColorE (o := some l2) (c := some 0) (T' := tup T 4 l2 (some 0)) P (fun _ e => by cases e; exact (show l2 < n by have := e5 l2 hl2; omega)) rfl (fun hh122_1 P122_1 => ?_))
            refine V_aload_n dJ1_fixAfterDeletion_125 rfl ?_
            refine V_iconst dJ1_fixAfterDeletion_126 ?_
            refine V_invS (M' := mJ1_setColor) (As := [.ref (ad s), vI 0]) (rest := []) okJ1_setColor dJ1_fixAfterDeletion_127 q702 rfl rfl rfl (Nat.le_of_ble_eq_true rfl) (d' := 0) (b1 := 0) (by first | decide | omega) (by first | decide | omega) (c_J1_setColorE (o := some s) (c := none) (T' := tup (tup T 4 l2 (some 0)) 4 s none) P122_1 (fun _ e => by cases e; exact c2) rfl (fun hh127_2 P127_2 => ?_))
            refine V_aload_n dJ1_fixAfterDeletion_130 rfl ?_
            refine V_aload_n dJ1_fixAfterDeletion_131 rfl ?_
            refine V_invVc (M' := mJ1_rotateRight) (As := [.ref (ad s)]) (rest := []) okJ1_rotateRight dJ1_fixAfterDeletion_132 q709 rfl rfl (clsE.o P127_2.ob) rfl rfl (Nat.le_of_ble_eq_true rfl) (d' := 0) (b1 := 0) (by first | decide | omega) (by first | decide | omega) (c_J1_rotateRight P127_2 (Tsh.col (x := none) (i := s) (Tsh.col (x := some 0) (i := l2) S)) c2 ((tup_nk (by decide)).trans ((tup_nk (by decide)).trans hl2)) (fun hh132_3 P132_3 => ?_))
            refine V_aload_n dJ1_fixAfterDeletion_135 rfl ?_
            refine V_invS (M' := mJ1_parentOf) (As := [.ref (ad i)]) (rest := []) okJ1_parentOf dJ1_fixAfterDeletion_136 q690 rfl rfl rfl (Nat.le_of_ble_eq_true rfl) (d' := 0) (b1 := 0) (by first | decide | omega) (by first | decide | omega) (c_J1_parentOfE (o := some i) (o' := some p) P132_3 (fun _ e => by cases e; exact h0) (r2i l2 hl2) ?_)
            refine V_invS (M' := mJ1_rightOf) (As := [.ref (ad p)]) (rest := []) okJ1_rightOf dJ1_fixAfterDeletion_139 q696 rfl rfl rfl (Nat.le_of_ble_eq_true rfl) (d' := 0) (b1 := 0) (by first | decide | omega) (by first | decide | omega) (c_J1_rightOfE (o := some p) (o' := some l2) P132_3 (fun _ e => by cases e; exact hpn) (r1p l2 hl2) ?_)
            refine V_astore_n dJ1_fixAfterDeletion_142 (by decide) ?_
            exact kr l2 hl2 _ P132_3
      · rcases hr2 : T 1 s with _ | r2
        · refine V_aload_n dJ1_fixAfterDeletion_71 rfl ?_
          refine V_invS (M' := mJ1_leftOf) (As := [.ref (ad s)]) (rest := []) okJ1_leftOf dJ1_fixAfterDeletion_72 q693 rfl rfl rfl (Nat.le_of_ble_eq_true rfl) (d' := 0) (b1 := 0) (by first | decide | omega) (by first | decide | omega) (c_J1_leftOfE (o := some s) (o' := some l2) P (fun _ e => by cases e; exact c2) hl2 ?_)
          refine V_invS (M' := mJ1_colorOf) (As := [.ref (ad l2)]) (rest := []) okJ1_colorOf dJ1_fixAfterDeletion_75 q699 rfl rfl rfl (Nat.le_of_ble_eq_true rfl) (d' := 0) (b1 := 0) (by first | decide | omega) (by first | decide | omega) (c_J1_colorOfE (o := some l2) (x := cV (some cl)) P (fun _ e => by cases e; exact (show l2 < n by have := e5 l2 hl2; omega)) (congrArg cV hcl) ?_)
          refine V_topE 1 rfl ?_
          refine V_iconst dJ1_fixAfterDeletion_78 ?_
          refine V_icmp_ne 106 dJ1_fixAfterDeletion_79 (by decide) (by first | omega | decide) (by first | omega | decide) (fun c_79 => absurd c_79 (by decide)) (fun c_79 => ?_)
          refine V_aload_n dJ1_fixAfterDeletion_82 rfl ?_
          refine V_invS (M' := mJ1_rightOf) (As := [.ref (ad s)]) (rest := []) okJ1_rightOf dJ1_fixAfterDeletion_83 q696 rfl rfl rfl (Nat.le_of_ble_eq_true rfl) (d' := 0) (b1 := 0) (by first | decide | omega) (by first | decide | omega) (c_J1_rightOfE (o := some s) (o' := none) P (fun _ e => by cases e; exact c2) hr2 ?_)
          refine V_invS (M' := mJ1_colorOf) (As := [.null]) (rest := []) okJ1_colorOf dJ1_fixAfterDeletion_86 q699 rfl rfl rfl (Nat.le_of_ble_eq_true rfl) (d' := 0) (b1 := 0) (by first | decide | omega) (by first | decide | omega) (c_J1_colorOf (o := none) P (fun _ e => by cases e) ?_)
          refine V_topE 1 rfl ?_
          refine V_iconst dJ1_fixAfterDeletion_89 ?_
          refine V_icmp_ne 106 dJ1_fixAfterDeletion_90 (by decide) (by first | omega | decide) (by first | omega | decide) (fun c_90 => absurd c_90 (by decide)) (fun c_90 => ?_)
          refine V_aload_n dJ1_fixAfterDeletion_93 rfl ?_
          refine V_iconst dJ1_fixAfterDeletion_94 ?_
          refine V_invS (M' := mJ1_setColor) (As := [.ref (ad s), vI 0]) (rest := []) okJ1_setColor dJ1_fixAfterDeletion_95 q702 rfl rfl rfl (Nat.le_of_ble_eq_true rfl) (d' := 0) (b1 := 0) (by first | decide | omega) (by first | decide | omega) (c_J1_setColorE (o := some s) (c := none) (T' := tup T 4 s none) P (fun _ e => by cases e; exact c2) rfl (fun hh95_1 P95_1 => ?_))
          refine V_aload_n dJ1_fixAfterDeletion_98 rfl ?_
          refine V_invS (M' := mJ1_parentOf) (As := [.ref (ad i)]) (rest := []) okJ1_parentOf dJ1_fixAfterDeletion_99 q690 rfl rfl rfl (Nat.le_of_ble_eq_true rfl) (d' := 0) (b1 := 0) (by first | decide | omega) (by first | decide | omega) (c_J1_parentOfE (o := some i) (o' := some p) P95_1 (fun _ e => by cases e; exact h0) ((tup_nk (by decide)).trans hp) ?_)
          refine V_astore_n dJ1_fixAfterDeletion_102 (by decide) ?_
          refine V_goto 183 dJ1_fixAfterDeletion_103 (by decide) ?_
          refine V_goto 0 dJ1_fixAfterDeletion_183 (by decide) ?_
          exact kb _ P95_1 _
        · rcases hcr : T 4 r2 with _ | cr
          · refine V_aload_n dJ1_fixAfterDeletion_71 rfl ?_
            refine V_invS (M' := mJ1_leftOf) (As := [.ref (ad s)]) (rest := []) okJ1_leftOf dJ1_fixAfterDeletion_72 q693 rfl rfl rfl (Nat.le_of_ble_eq_true rfl) (d' := 0) (b1 := 0) (by first | decide | omega) (by first | decide | omega) (c_J1_leftOfE (o := some s) (o' := some l2) P (fun _ e => by cases e; exact c2) hl2 ?_)
            refine V_invS (M' := mJ1_colorOf) (As := [.ref (ad l2)]) (rest := []) okJ1_colorOf dJ1_fixAfterDeletion_75 q699 rfl rfl rfl (Nat.le_of_ble_eq_true rfl) (d' := 0) (b1 := 0) (by first | decide | omega) (by first | decide | omega) (c_J1_colorOfE (o := some l2) (x := cV (some cl)) P (fun _ e => by cases e; exact (show l2 < n by have := e5 l2 hl2; omega)) (congrArg cV hcl) ?_)
            refine V_topE 1 rfl ?_
            refine V_iconst dJ1_fixAfterDeletion_78 ?_
            refine V_icmp_ne 106 dJ1_fixAfterDeletion_79 (by decide) (by first | omega | decide) (by first | omega | decide) (fun c_79 => absurd c_79 (by decide)) (fun c_79 => ?_)
            refine V_aload_n dJ1_fixAfterDeletion_82 rfl ?_
            refine V_invS (M' := mJ1_rightOf) (As := [.ref (ad s)]) (rest := []) okJ1_rightOf dJ1_fixAfterDeletion_83 q696 rfl rfl rfl (Nat.le_of_ble_eq_true rfl) (d' := 0) (b1 := 0) (by first | decide | omega) (by first | decide | omega) (c_J1_rightOfE (o := some s) (o' := some r2) P (fun _ e => by cases e; exact c2) hr2 ?_)
            refine V_invS (M' := mJ1_colorOf) (As := [.ref (ad r2)]) (rest := []) okJ1_colorOf dJ1_fixAfterDeletion_86 q699 rfl rfl rfl (Nat.le_of_ble_eq_true rfl) (d' := 0) (b1 := 0) (by first | decide | omega) (by first | decide | omega) (c_J1_colorOfE (o := some r2) (x := cV none) P (fun _ e => by cases e; exact (e7 r2 hr2).2.1) (congrArg cV hcr) ?_)
            refine V_topE 0 rfl ?_
            refine V_iconst dJ1_fixAfterDeletion_89 ?_
            refine V_icmp_ne 106 dJ1_fixAfterDeletion_90 (by decide) (by first | omega | decide) (by first | omega | decide) (fun c_90 => ?_) (fun c_90 => absurd c_90 (by decide))
            refine V_aload_n dJ1_fixAfterDeletion_106 rfl ?_
            refine V_invS (M' := mJ1_rightOf) (As := [.ref (ad s)]) (rest := []) okJ1_rightOf dJ1_fixAfterDeletion_107 q696 rfl rfl rfl (Nat.le_of_ble_eq_true rfl) (d' := 0) (b1 := 0) (by first | decide | omega) (by first | decide | omega) (c_J1_rightOfE (o := some s) (o' := some r2) P (fun _ e => by cases e; exact c2) hr2 ?_)
            refine V_invS (M' := mJ1_colorOf) (As := [.ref (ad r2)]) (rest := []) okJ1_colorOf dJ1_fixAfterDeletion_110 q699 rfl rfl rfl (Nat.le_of_ble_eq_true rfl) (d' := 0) (b1 := 0) (by first | decide | omega) (by first | decide | omega) (c_J1_colorOfE (o := some r2) (x := cV none) P (fun _ e => by cases e; exact (e7 r2 hr2).2.1) (congrArg cV hcr) ?_)
            refine V_topE 0 rfl ?_
            refine V_iconst dJ1_fixAfterDeletion_113 ?_
            refine V_icmp_ne 143 dJ1_fixAfterDeletion_114 (by decide) (by first | omega | decide) (by first | omega | decide) (fun c_114 => ?_) (fun c_114 => absurd c_114 (by decide))
            exact delF_143 P S h0 hp hl hs hlo Z K'
          · refine V_aload_n dJ1_fixAfterDeletion_71 rfl ?_
            refine V_invS (M' := mJ1_leftOf) (As := [.ref (ad s)]) (rest := []) okJ1_leftOf dJ1_fixAfterDeletion_72 q693 rfl rfl rfl (Nat.le_of_ble_eq_true rfl) (d' := 0) (b1 := 0) (by first | decide | omega) (by first | decide | omega) (c_J1_leftOfE (o := some s) (o' := some l2) P (fun _ e => by cases e; exact c2) hl2 ?_)
            refine V_invS (M' := mJ1_colorOf) (As := [.ref (ad l2)]) (rest := []) okJ1_colorOf dJ1_fixAfterDeletion_75 q699 rfl rfl rfl (Nat.le_of_ble_eq_true rfl) (d' := 0) (b1 := 0) (by first | decide | omega) (by first | decide | omega) (c_J1_colorOfE (o := some l2) (x := cV (some cl)) P (fun _ e => by cases e; exact (show l2 < n by have := e5 l2 hl2; omega)) (congrArg cV hcl) ?_)
            refine V_topE 1 rfl ?_
            refine V_iconst dJ1_fixAfterDeletion_78 ?_
            refine V_icmp_ne 106 dJ1_fixAfterDeletion_79 (by decide) (by first | omega | decide) (by first | omega | decide) (fun c_79 => absurd c_79 (by decide)) (fun c_79 => ?_)
            refine V_aload_n dJ1_fixAfterDeletion_82 rfl ?_
            refine V_invS (M' := mJ1_rightOf) (As := [.ref (ad s)]) (rest := []) okJ1_rightOf dJ1_fixAfterDeletion_83 q696 rfl rfl rfl (Nat.le_of_ble_eq_true rfl) (d' := 0) (b1 := 0) (by first | decide | omega) (by first | decide | omega) (c_J1_rightOfE (o := some s) (o' := some r2) P (fun _ e => by cases e; exact c2) hr2 ?_)
            refine V_invS (M' := mJ1_colorOf) (As := [.ref (ad r2)]) (rest := []) okJ1_colorOf dJ1_fixAfterDeletion_86 q699 rfl rfl rfl (Nat.le_of_ble_eq_true rfl) (d' := 0) (b1 := 0) (by first | decide | omega) (by first | decide | omega) (c_J1_colorOfE (o := some r2) (x := cV (some cr)) P (fun _ e => by cases e; exact (e7 r2 hr2).2.1) (congrArg cV hcr) ?_)
            refine V_topE 1 rfl ?_
            refine V_iconst dJ1_fixAfterDeletion_89 ?_
            refine V_icmp_ne 106 dJ1_fixAfterDeletion_90 (by decide) (by first | omega | decide) (by first | omega | decide) (fun c_90 => absurd c_90 (by decide)) (fun c_90 => ?_)
            refine V_aload_n dJ1_fixAfterDeletion_93 rfl ?_
            refine V_iconst dJ1_fixAfterDeletion_94 ?_
            refine V_invS (M' := mJ1_setColor) (As := [.ref (ad s), vI 0]) (rest := []) okJ1_setColor dJ1_fixAfterDeletion_95 q702 rfl rfl rfl (Nat.le_of_ble_eq_true rfl) (d' := 0) (b1 := 0) (by first | decide | omega) (by first | decide | omega) (c_J1_setColorE (o := some s) (c := none) (T' := tup T 4 s none) P (fun _ e => by cases e; exact c2) rfl (fun hh95_1 P95_1 => ?_))
            refine V_aload_n dJ1_fixAfterDeletion_98 rfl ?_
            refine V_invS (M' := mJ1_parentOf) (As := [.ref (ad i)]) (rest := []) okJ1_parentOf dJ1_fixAfterDeletion_99 q690 rfl rfl rfl (Nat.le_of_ble_eq_true rfl) (d' := 0) (b1 := 0) (by first | decide | omega) (by first | decide | omega) (c_J1_parentOfE (o := some i) (o' := some p) P95_1 (fun _ e => by cases e; exact h0) ((tup_nk (by decide)).trans hp) ?_)
            refine V_astore_n dJ1_fixAfterDeletion_102 (by decide) ?_
            refine V_goto 183 dJ1_fixAfterDeletion_103 (by decide) ?_
            refine V_goto 0 dJ1_fixAfterDeletion_183 (by decide) ?_
            exact kb _ P95_1 _
theorem delF_L : ∀ (m : Nat) {i : Nat} {T : TT} {hh : AH} {lo hi : Nat → Nat} {l2 : Option Value}, TH h a n ad K W vs cmp nk sz mc hh T → Tsh n T lo hi → i < n → lo i = 0 → n - (hi i - lo i) ≤ m → (T 3 0 = some i ∨ RBk T) → (zz → T 1 0 = none) → KD h a n ad K W vs cmp nk sz mc zz Q → V E mJ1_fixAfterDeletion 1 0 0 [some (.ref a), some (.ref (ad i)), l2] [] (ovl h a hh) Q X := by
  intro m
  induction m with
  | zero =>
    intro i T hh lo hi l2 P S h0 hlo hm RB Z K'
    obtain ⟨S0, S1, S2⟩ := id S
    obtain ⟨a1, a2, a3, a4, a5, a6, a7, a8, a9⟩ := S2 i h0
    have hir : T 2 i = none := by
      rcases hp : T 2 i with _ | p
      · rfl
      · obtain ⟨z1, z2⟩ := a9 p hp
        obtain ⟨d1, d2, d3, d4, d5, d6, d7, d8, d9⟩ := S2 p z1
        rcases z2 with z | z
        · have := d5 i z; omega
        · have := d7 i z; omega
    have hr := a8 hir
    refine V_aload_n dJ1_fixAfterDeletion_0 rfl ?_
    refine V_aload_n dJ1_fixAfterDeletion_1 rfl ?_
    refine VT_getRoot P dJ1_fixAfterDeletion_2 q190 (o := some i) hr ?_
    refine V_acmp_eq (rx := (some (ad i))) (ry := (some (ad i))) 345 dJ1_fixAfterDeletion_5 (by decide) (fun _ => ?_) (fun c_5 => absurd rfl c_5)
    exact delF_end P S h0 (Or.inl hr) Z K'
  | succ m ih =>
    intro i T hh lo hi l2 P S h0 hlo hm RB Z K'
    obtain ⟨S0, S1, S2⟩ := id S
    obtain ⟨a1, a2, a3, a4, a5, a6, a7, a8, a9⟩ := S2 i h0
    rcases hr : T 3 0 with _ | r
    · have := S0 hr; omega
    · obtain ⟨b1, b2, b3, b4⟩ := S1 r hr
      by_cases hir : r = i
      · subst hir
        refine V_aload_n dJ1_fixAfterDeletion_0 rfl ?_
        refine V_aload_n dJ1_fixAfterDeletion_1 rfl ?_
        refine VT_getRoot P dJ1_fixAfterDeletion_2 q190 (o := some r) hr ?_
        refine V_acmp_eq (rx := (some (ad r))) (ry := (some (ad r))) 345 dJ1_fixAfterDeletion_5 (by decide) (fun _ => ?_) (fun c_5 => absurd rfl c_5)
        exact delF_end P S h0 (Or.inl hr) Z K'
      · have nir : i ≠ r := fun e => hir e.symm
        have RB' : RBk T := by
          rcases RB with z | z
          · rw [hr] at z; cases z; exact absurd rfl hir
          · exact z
        rcases hc : T 4 i with _ | c
        · refine V_aload_n dJ1_fixAfterDeletion_0 rfl ?_
          refine V_aload_n dJ1_fixAfterDeletion_1 rfl ?_
          refine VT_getRoot P dJ1_fixAfterDeletion_2 q190 (o := some r) hr ?_
          refine V_acmp_eq (rx := (some (ad i))) (ry := (some (ad r))) 345 dJ1_fixAfterDeletion_5 (by decide) (fun c_5 => (absurd (P.2.2.2.1 _ _ h0 b1 (Option.some.inj c_5)) nir)) (fun _ => ?_)
          refine V_aload_n dJ1_fixAfterDeletion_8 rfl ?_
          refine V_invS (M' := mJ1_colorOf) (As := [.ref (ad i)]) (rest := []) okJ1_colorOf dJ1_fixAfterDeletion_9 q699 rfl rfl rfl (Nat.le_of_ble_eq_true rfl) (d' := 0) (b1 := 0) (by first | decide | omega) (by first | decide | omega) (c_J1_colorOfE (o := some i) (x := cV none) P (fun _ e => by cases e; exact h0) (congrArg cV hc) ?_)
          refine V_topE 0 rfl ?_
          refine V_iconst dJ1_fixAfterDeletion_12 ?_
          refine V_icmp_ne 345 dJ1_fixAfterDeletion_13 (by decide) (by first | omega | decide) (by first | omega | decide) (fun c_13 => ?_) (fun c_13 => absurd c_13 (by decide))
          exact delF_end P S h0 (Or.inr RB') Z K'
        · rcases hp : T 2 i with _ | p
          · have := a8 hp; rw [hr] at this; cases this; exact absurd rfl hir
          · obtain ⟨z1, z2⟩ := a9 p hp
            obtain ⟨d1, d2, d3, d4, d5, d6, d7, d8, d9⟩ := S2 p z1
            have hl : T 0 p = some i := by
              rcases z2 with z | z
              · exact z
              · have := d7 i z; omega
            obtain ⟨g1, g2, g3, g4⟩ := d5 i hl
            rcases hs : T 1 p with _ | s
            · have fin := delF_71 (E := E) (X := X) P S h0 hp hl hlo (Or.inr RB') Z K' (fun hh' T' P' S' RB2 Z' l3 => ih P' S' z1 (by omega) (by omega) RB2 Z' K')
              rw [hs] at fin
              refine V_aload_n dJ1_fixAfterDeletion_0 rfl ?_
              refine V_aload_n dJ1_fixAfterDeletion_1 rfl ?_
              refine VT_getRoot P dJ1_fixAfterDeletion_2 q190 (o := some r) hr ?_
              refine V_acmp_eq (rx := (some (ad i))) (ry := (some (ad r))) 345 dJ1_fixAfterDeletion_5 (by decide) (fun c_5 => (absurd (P.2.2.2.1 _ _ h0 b1 (Option.some.inj c_5)) nir)) (fun _ => ?_)
              refine V_aload_n dJ1_fixAfterDeletion_8 rfl ?_
              refine V_invS (M' := mJ1_colorOf) (As := [.ref (ad i)]) (rest := []) okJ1_colorOf dJ1_fixAfterDeletion_9 q699 rfl rfl rfl (Nat.le_of_ble_eq_true rfl) (d' := 0) (b1 := 0) (by first | decide | omega) (by first | decide | omega) (c_J1_colorOfE (o := some i) (x := cV (some c)) P (fun _ e => by cases e; exact h0) (congrArg cV hc) ?_)
              refine V_topE 1 rfl ?_
              refine V_iconst dJ1_fixAfterDeletion_12 ?_
              refine V_icmp_ne 345 dJ1_fixAfterDeletion_13 (by decide) (by first | omega | decide) (by first | omega | decide) (fun c_13 => absurd c_13 (by decide)) (fun c_13 => ?_)
              refine V_aload_n dJ1_fixAfterDeletion_16 rfl ?_
              refine V_aload_n dJ1_fixAfterDeletion_17 rfl ?_
              refine V_invS (M' := mJ1_parentOf) (As := [.ref (ad i)]) (rest := [.ref (ad i)]) okJ1_parentOf dJ1_fixAfterDeletion_18 q690 rfl rfl rfl (Nat.le_of_ble_eq_true rfl) (d' := 0) (b1 := 0) (by first | decide | omega) (by first | decide | omega) (c_J1_parentOfE (o := some i) (o' := some p) P (fun _ e => by cases e; exact h0) hp ?_)
              refine V_invS (M' := mJ1_leftOf) (As := [.ref (ad p)]) (rest := [.ref (ad i)]) okJ1_leftOf dJ1_fixAfterDeletion_21 q693 rfl rfl rfl (Nat.le_of_ble_eq_true rfl) (d' := 0) (b1 := 0) (by first | decide | omega) (by first | decide | omega) (c_J1_leftOfE (o := some p) (o' := some i) P (fun _ e => by cases e; exact z1) hl ?_)
              refine V_acmp_ne (rx := (some (ad i))) (ry := (some (ad i))) 186 dJ1_fixAfterDeletion_24 (by decide) (fun c_24 => absurd rfl c_24) (fun _ => ?_)
              refine V_aload_n dJ1_fixAfterDeletion_27 rfl ?_
              refine V_invS (M' := mJ1_parentOf) (As := [.ref (ad i)]) (rest := []) okJ1_parentOf dJ1_fixAfterDeletion_28 q690 rfl rfl rfl (Nat.le_of_ble_eq_true rfl) (d' := 0) (b1 := 0) (by first | decide | omega) (by first | decide | omega) (c_J1_parentOfE (o := some i) (o' := some p) P (fun _ e => by cases e; exact h0) hp ?_)
              refine V_invS (M' := mJ1_rightOf) (As := [.ref (ad p)]) (rest := []) okJ1_rightOf dJ1_fixAfterDeletion_31 q696 rfl rfl rfl (Nat.le_of_ble_eq_true rfl) (d' := 0) (b1 := 0) (by first | decide | omega) (by first | decide | omega) (c_J1_rightOfE (o := some p) (o' := none) P (fun _ e => by cases e; exact z1) hs ?_)
              refine V_astore_nN dJ1_fixAfterDeletion_34 (by decide) ?_
              refine V_aload_nN dJ1_fixAfterDeletion_35 rfl ?_
              refine V_invS (M' := mJ1_colorOf) (As := [.null]) (rest := []) okJ1_colorOf dJ1_fixAfterDeletion_36 q699 rfl rfl rfl (Nat.le_of_ble_eq_true rfl) (d' := 0) (b1 := 0) (by first | decide | omega) (by first | decide | omega) (c_J1_colorOf (o := none) P (fun _ e => by cases e) ?_)
              refine V_topE 1 rfl ?_
              refine V_if_ne 71 dJ1_fixAfterDeletion_39 (by decide) (by first | omega | decide) (fun c_39 => ?_) (fun c_39 => absurd c_39 (by decide))
              exact fin
            · obtain ⟨y1, y2, y3, y4, y5⟩ := d7 s hs
              rcases hcs : T 4 s with _ | cs
              · have S' := Tsh.col (x := none) (i := p) (Tsh.col (x := some 0) (i := s) S)
                have hrp : tup (tup T 4 s (some 0)) 4 p none 1 p = some s := by simp [tup, hs]
                have SR := Tsh_rotL S' z1 hrp
                have nsp : s ≠ p := by omega
                have nip : i ≠ p := by omega
                have nis : i ≠ s := by omega
                have e0 : (0 : Nat) ≠ p := by omega
                have fs := S2 s y2
                have q2i : rotL (tup (tup T 4 s (some 0)) 4 p none) p s 2 i = some p := by
                  have nsi : T 0 s ≠ some i := fun e => by
                    have := (fs.2.2.2.2.1 i e).2.1
                    rw [hp] at this; cases this; omega
                  simp [rotL, tup, nip, nis, nsi, hp]
                have q0p : rotL (tup (tup T 4 s (some 0)) 4 p none) p s 0 p = some i := by
                  have npp : ¬ (T 2 p = some p ∧ T 0 p = some p) := fun e => by rw [hl] at e; cases e.2; omega
                  have n1 : p ≠ s := by omega
                  have n2 : T 2 p ≠ some p := fun e => by
                    obtain ⟨-, w⟩ := d9 p e
                    rcases w with w | w
                    · have := d5 p w; omega
                    · have := d7 p w; omega
                  simp [rotL, tup, n1, n2, hl]
                have q10 : zz → rotL (tup (tup T 4 s (some 0)) 4 p none) p s 1 0 = none := fun z => by
                  have n2 : T 2 p ≠ some 0 := fun e => by
                    obtain ⟨-, w⟩ := d9 0 e
                    have w0 := S2 0 (by omega)
                    rcases w with w | w
                    · have := w0.2.2.2.2.1 p w; omega
                    · have := w0.2.2.2.2.2.2.1 p w; omega
                  simp [rotL, tup, e0, n2, Z z]
                have qRB : RBk (rotL (tup (tup T 4 s (some 0)) 4 p none) p s) := by
                  intro r' hr'
                  simp only [rotL, tup] at hr'
                  show (if (4:Nat) = 4 ∧ r' = p then none else if (4:Nat) = 4 ∧ r' = s then some 0 else T 4 r') ≠ none
                  by_cases hpr : T 2 p = none
                  · have : r' = s := by simp [hpr] at hr'; exact hr'.symm
                    subst this
                    simp [nsp]
                  · have : r' = r := by simp [hpr, hr] at hr'; exact hr'.symm
                    subst this
                    have n1 : r' ≠ p := by rintro rfl; exact hpr b2
                    simp only [n1, and_false, if_false]
                    split
                    · simp
                    · exact RB' r' hr
                have fin : ∀ hh', TH h a n ad K W vs cmp nk sz mc hh' (rotL (tup (tup T 4 s (some 0)) 4 p none) p s) → V E mJ1_fixAfterDeletion 1 0 71 [some (.ref a), some (.ref (ad i)), some (va_rf (Option.map ad (rotL (tup (tup T 4 s (some 0)) 4 p none) p s 1 p)))] [] (ovl h a hh') Q X := fun hh' P' => delF_71 P' SR h0 q2i q0p (by simp [nis, hlo]) (Or.inr qRB) q10 K' (fun hh' T' P' S' RB2 Z' l3 => ih P' S' z1 (by simp; omega) (by simp; omega) RB2 Z' K')
                refine V_aload_n dJ1_fixAfterDeletion_0 rfl ?_
                refine V_aload_n dJ1_fixAfterDeletion_1 rfl ?_
                refine VT_getRoot P dJ1_fixAfterDeletion_2 q190 (o := some r) hr ?_
                refine V_acmp_eq (rx := (some (ad i))) (ry := (some (ad r))) 345 dJ1_fixAfterDeletion_5 (by decide) (fun c_5 => (absurd (P.2.2.2.1 _ _ h0 b1 (Option.some.inj c_5)) nir)) (fun _ => ?_)
                refine V_aload_n dJ1_fixAfterDeletion_8 rfl ?_
                refine V_invS (M' := mJ1_colorOf) (As := [.ref (ad i)]) (rest := []) okJ1_colorOf dJ1_fixAfterDeletion_9 q699 rfl rfl rfl (Nat.le_of_ble_eq_true rfl) (d' := 0) (b1 := 0) (by first | decide | omega) (by first | decide | omega) (c_J1_colorOfE (o := some i) (x := cV (some c)) P (fun _ e => by cases e; exact h0) (congrArg cV hc) ?_)
                refine V_topE 1 rfl ?_
                refine V_iconst dJ1_fixAfterDeletion_12 ?_
                refine V_icmp_ne 345 dJ1_fixAfterDeletion_13 (by decide) (by first | omega | decide) (by first | omega | decide) (fun c_13 => absurd c_13 (by decide)) (fun c_13 => ?_)
                refine V_aload_n dJ1_fixAfterDeletion_16 rfl ?_
                refine V_aload_n dJ1_fixAfterDeletion_17 rfl ?_
                refine V_invS (M' := mJ1_parentOf) (As := [.ref (ad i)]) (rest := [.ref (ad i)]) okJ1_parentOf dJ1_fixAfterDeletion_18 q690 rfl rfl rfl (Nat.le_of_ble_eq_true rfl) (d' := 0) (b1 := 0) (by first | decide | omega) (by first | decide | omega) (c_J1_parentOfE (o := some i) (o' := some p) P (fun _ e => by cases e; exact h0) hp ?_)
                refine V_invS (M' := mJ1_leftOf) (As := [.ref (ad p)]) (rest := [.ref (ad i)]) okJ1_leftOf dJ1_fixAfterDeletion_21 q693 rfl rfl rfl (Nat.le_of_ble_eq_true rfl) (d' := 0) (b1 := 0) (by first | decide | omega) (by first | decide | omega) (c_J1_leftOfE (o := some p) (o' := some i) P (fun _ e => by cases e; exact z1) hl ?_)
                refine V_acmp_ne (rx := (some (ad i))) (ry := (some (ad i))) 186 dJ1_fixAfterDeletion_24 (by decide) (fun c_24 => absurd rfl c_24) (fun _ => ?_)
                refine V_aload_n dJ1_fixAfterDeletion_27 rfl ?_
                refine V_invS (M' := mJ1_parentOf) (As := [.ref (ad i)]) (rest := []) okJ1_parentOf dJ1_fixAfterDeletion_28 q690 rfl rfl rfl (Nat.le_of_ble_eq_true rfl) (d' := 0) (b1 := 0) (by first | decide | omega) (by first | decide | omega) (c_J1_parentOfE (o := some i) (o' := some p) P (fun _ e => by cases e; exact h0) hp ?_)
                refine V_invS (M' := mJ1_rightOf) (As := [.ref (ad p)]) (rest := []) okJ1_rightOf dJ1_fixAfterDeletion_31 q696 rfl rfl rfl (Nat.le_of_ble_eq_true rfl) (d' := 0) (b1 := 0) (by first | decide | omega) (by first | decide | omega) (c_J1_rightOfE (o := some p) (o' := some s) P (fun _ e => by cases e; exact z1) hs ?_)
                refine V_astore_n dJ1_fixAfterDeletion_34 (by decide) ?_
                refine V_aload_n dJ1_fixAfterDeletion_35 rfl ?_
                refine V_invS (M' := mJ1_colorOf) (As := [.ref (ad s)]) (rest := []) okJ1_colorOf dJ1_fixAfterDeletion_36 q699 rfl rfl rfl (Nat.le_of_ble_eq_true rfl) (d' := 0) (b1 := 0) (by first | decide | omega) (by first | decide | omega) (c_J1_colorOfE (o := some s) (x := cV none) P (fun _ e => by cases e; exact y2) (congrArg cV hcs) ?_)
                refine V_topE 0 rfl ?_
                refine V_if_ne 71 dJ1_fixAfterDeletion_39 (by decide) (by first | omega | decide) (fun c_39 => absurd c_39 (by decide)) (fun c_39 => ?_)
                refine V_aload_n dJ1_fixAfterDeletion_42 rfl ?_
                refine V_iconst dJ1_fixAfterDeletion_43 ?_
                refine V_invS (M' := mJ1_setColor) (As := [.ref (ad s), vI 1]) (rest := []) okJ1_setColor dJ1_fixAfterDeletion_44 q702 rfl rfl rfl (Nat.le_of_ble_eq_true rfl) (d' := 0) (b1 := 0) (by first | decide | omega) (by first | decide | omega) (c_J1_setColorE (o := some s) (c := some 0) (T' := tup T 4 s (some 0)) P (fun _ e => by cases e; exact y2) rfl (fun hh44_1 P44_1 => ?_))
                refine V_aload_n dJ1_fixAfterDeletion_47 rfl ?_
                refine V_invS (M' := mJ1_parentOf) (As := [.ref (ad i)]) (rest := []) okJ1_parentOf dJ1_fixAfterDeletion_48 q690 rfl rfl rfl (Nat.le_of_ble_eq_true rfl) (d' := 0) (b1 := 0) (by first | decide | omega) (by first | decide | omega) (c_J1_parentOfE (o := some i) (o' := some p) P44_1 (fun _ e => by cases e; exact h0) ((tup_nk (by decide)).trans hp) ?_)
                refine V_iconst dJ1_fixAfterDeletion_51 ?_
                refine V_invS (M' := mJ1_setColor) (As := [.ref (ad p), vI 0]) (rest := []) okJ1_setColor dJ1_fixAfterDeletion_52 q702 rfl rfl rfl (Nat.le_of_ble_eq_true rfl) (d' := 0) (b1 := 0) (by first | decide | omega) (by first | decide | omega) (c_J1_setColorE (o := some p) (c := none) (T' := tup (tup T 4 s (some 0)) 4 p none) P44_1 (fun _ e => by cases e; exact z1) rfl (fun hh52_2 P52_2 => ?_))
                refine V_aload_n dJ1_fixAfterDeletion_55 rfl ?_
                refine V_aload_n dJ1_fixAfterDeletion_56 rfl ?_
                refine V_invS (M' := mJ1_parentOf) (As := [.ref (ad i)]) (rest := [.ref a]) okJ1_parentOf dJ1_fixAfterDeletion_57 q690 rfl rfl rfl (Nat.le_of_ble_eq_true rfl) (d' := 0) (b1 := 0) (by first | decide | omega) (by first | decide | omega) (c_J1_parentOfE (o := some i) (o' := some p) P52_2 (fun _ e => by cases e; exact h0) ((tup_nk (by decide)).trans ((tup_nk (by decide)).trans hp)) ?_)
                refine V_invVc (M' := mJ1_rotateLeft) (As := [.ref (ad p)]) (rest := []) okJ1_rotateLeft dJ1_fixAfterDeletion_60 q705 rfl rfl (clsE.o P52_2.ob) rfl rfl (Nat.le_of_ble_eq_true rfl) (d' := 0) (b1 := 0) (by first | decide | omega) (by first | decide | omega) (c_J1_rotateLeft P52_2 S' z1 ((tup_nk (by decide)).trans ((tup_nk (by decide)).trans hs)) (fun hh60_3 P60_3 => ?_))
                refine V_aload_n dJ1_fixAfterDeletion_63 rfl ?_
                refine V_invS (M' := mJ1_parentOf) (As := [.ref (ad i)]) (rest := []) okJ1_parentOf dJ1_fixAfterDeletion_64 q690 rfl rfl rfl (Nat.le_of_ble_eq_true rfl) (d' := 0) (b1 := 0) (by first | decide | omega) (by first | decide | omega) (c_J1_parentOfE (o := some i) (o' := some p) P60_3 (fun _ e => by cases e; exact h0) q2i ?_)
                refine V_invS (M' := mJ1_rightOf) (As := [.ref (ad p)]) (rest := []) okJ1_rightOf dJ1_fixAfterDeletion_67 q696 rfl rfl rfl (Nat.le_of_ble_eq_true rfl) (d' := 0) (b1 := 0) (by first | decide | omega) (by first | decide | omega) (c_J1_rightOfE (o := some p) (o' := (rotL (tup (tup T 4 s (some 0)) 4 p none) p s) 1 p) P60_3 (fun _ e => by cases e; exact z1) rfl ?_)
                refine V_astore_nG dJ1_fixAfterDeletion_70 isR.rf (by decide) ?_
                exact fin _ P60_3
              · have fin := delF_71 (E := E) (X := X) P S h0 hp hl hlo (Or.inr RB') Z K' (fun hh' T' P' S' RB2 Z' l3 => ih P' S' z1 (by omega) (by omega) RB2 Z' K')
                rw [hs] at fin
                refine V_aload_n dJ1_fixAfterDeletion_0 rfl ?_
                refine V_aload_n dJ1_fixAfterDeletion_1 rfl ?_
                refine VT_getRoot P dJ1_fixAfterDeletion_2 q190 (o := some r) hr ?_
                refine V_acmp_eq (rx := (some (ad i))) (ry := (some (ad r))) 345 dJ1_fixAfterDeletion_5 (by decide) (fun c_5 => (absurd (P.2.2.2.1 _ _ h0 b1 (Option.some.inj c_5)) nir)) (fun _ => ?_)
                refine V_aload_n dJ1_fixAfterDeletion_8 rfl ?_
                refine V_invS (M' := mJ1_colorOf) (As := [.ref (ad i)]) (rest := []) okJ1_colorOf dJ1_fixAfterDeletion_9 q699 rfl rfl rfl (Nat.le_of_ble_eq_true rfl) (d' := 0) (b1 := 0) (by first | decide | omega) (by first | decide | omega) (c_J1_colorOfE (o := some i) (x := cV (some c)) P (fun _ e => by cases e; exact h0) (congrArg cV hc) ?_)
                refine V_topE 1 rfl ?_
                refine V_iconst dJ1_fixAfterDeletion_12 ?_
                refine V_icmp_ne 345 dJ1_fixAfterDeletion_13 (by decide) (by first | omega | decide) (by first | omega | decide) (fun c_13 => absurd c_13 (by decide)) (fun c_13 => ?_)
                refine V_aload_n dJ1_fixAfterDeletion_16 rfl ?_
                refine V_aload_n dJ1_fixAfterDeletion_17 rfl ?_
                refine V_invS (M' := mJ1_parentOf) (As := [.ref (ad i)]) (rest := [.ref (ad i)]) okJ1_parentOf dJ1_fixAfterDeletion_18 q690 rfl rfl rfl (Nat.le_of_ble_eq_true rfl) (d' := 0) (b1 := 0) (by first | decide | omega) (by first | decide | omega) (c_J1_parentOfE (o := some i) (o' := some p) P (fun _ e => by cases e; exact h0) hp ?_)
                refine V_invS (M' := mJ1_leftOf) (As := [.ref (ad p)]) (rest := [.ref (ad i)]) okJ1_leftOf dJ1_fixAfterDeletion_21 q693 rfl rfl rfl (Nat.le_of_ble_eq_true rfl) (d' := 0) (b1 := 0) (by first | decide | omega) (by first | decide | omega) (c_J1_leftOfE (o := some p) (o' := some i) P (fun _ e => by cases e; exact z1) hl ?_)
                refine V_acmp_ne (rx := (some (ad i))) (ry := (some (ad i))) 186 dJ1_fixAfterDeletion_24 (by decide) (fun c_24 => absurd rfl c_24) (fun _ => ?_)
                refine V_aload_n dJ1_fixAfterDeletion_27 rfl ?_
                refine V_invS (M' := mJ1_parentOf) (As := [.ref (ad i)]) (rest := []) okJ1_parentOf dJ1_fixAfterDeletion_28 q690 rfl rfl rfl (Nat.le_of_ble_eq_true rfl) (d' := 0) (b1 := 0) (by first | decide | omega) (by first | decide | omega) (c_J1_parentOfE (o := some i) (o' := some p) P (fun _ e => by cases e; exact h0) hp ?_)
                refine V_invS (M' := mJ1_rightOf) (As := [.ref (ad p)]) (rest := []) okJ1_rightOf dJ1_fixAfterDeletion_31 q696 rfl rfl rfl (Nat.le_of_ble_eq_true rfl) (d' := 0) (b1 := 0) (by first | decide | omega) (by first | decide | omega) (c_J1_rightOfE (o := some p) (o' := some s) P (fun _ e => by cases e; exact z1) hs ?_)
                refine V_astore_n dJ1_fixAfterDeletion_34 (by decide) ?_
                refine V_aload_n dJ1_fixAfterDeletion_35 rfl ?_
                refine V_invS (M' := mJ1_colorOf) (As := [.ref (ad s)]) (rest := []) okJ1_colorOf dJ1_fixAfterDeletion_36 q699 rfl rfl rfl (Nat.le_of_ble_eq_true rfl) (d' := 0) (b1 := 0) (by first | decide | omega) (by first | decide | omega) (c_J1_colorOfE (o := some s) (x := cV (some cs)) P (fun _ e => by cases e; exact y2) (congrArg cV hcs) ?_)
                refine V_topE 1 rfl ?_
                refine V_if_ne 71 dJ1_fixAfterDeletion_39 (by decide) (by first | omega | decide) (fun c_39 => ?_) (fun c_39 => absurd c_39 (by decide))
                exact fin
theorem c_J1_fixAfterDeletion (P : TH h a n ad K W vs cmp nk sz mc hh T) (S : Tsh n T lo hi) (h0 : i < n) (hlo : lo i = 0) (RB : T 3 0 = some i ∨ RBk T) (Z : zz → T 1 0 = none) (K' : KD h a n ad K W vs cmp nk sz mc zz Q) : V E mJ1_fixAfterDeletion 1 0 0 [some (.ref a), some (.ref (ad i)), none] [] (ovl h a hh) Q X :=
  delF_L _ P S h0 hlo (Nat.le_refl _) RB Z K'
end TM13
