/-! THE REFERENCE'S METHODS, part 31: which was seen -/
/-- of a set, the nodes that meet P stay -/
noncomputable def snN (P : Int → Prop) (set : Int) : Nat → Int
  | 0 => set
  | n + 1 => pIf (P n) (snN P set n) (zAnd (snN P set n) (zXor (zShl 1 n) (-1)))
noncomputable def seF (g : MG) : Nat → Int
  | 0 => zShl 1 (g 1 0) - 1
  | k + 1 => snN (fun n => (0 ≤ g 48 (2 * (k : Int)) ∧ g 48 (2 * (k : Int)) ≤ g 9 0) ∧ nAt g (g 48 (2 * (k : Int))) n = g 48 (2 * (k : Int) + 1)) (seF g k) (g 1 0).toNat
noncomputable def aWhich (g : MG) : Int := seF g (g 49 0).toNat
noncomputable def mstN (N : Int → Int) (set : Int) (m : Nat) : Nat → Int
  | 0 => 0
  | n + 1 => if mstN N set m n < cntP (fun j => (zAnd (zShr set n) 1 = 1 ∧ zAnd (zShr set j) 1 = 1) ∧ N n = N j) 0 m then cntP (fun j => (zAnd (zShr set n) 1 = 1 ∧ zAnd (zShr set j) 1 = 1) ∧ N n = N j) 0 m else mstN N set m n
def lkN (mo : Int → Int) : Nat → Int → Int → Int → Int
  | 0, _, found, _ => found
  | m + 1, t, found, few => if found = -9 ∨ mo t < few then lkN mo m (t + 1) t (mo t) else lkN mo m (t + 1) found few
noncomputable def aLook (g : MG) : Int := if zAnd (aWhich g) (aWhich g - 1) = 0 then -9 else lkN (fun t => mstN (nAt g t) (aWhich g) (g 1 0).toNat (g 1 0).toNat) (g 9 0 + 1).toNat 0 (-9) 0
theorem snN_c {P P' : Int → Prop} {set : Int} : ∀ n : Nat, (∀ j : Int, 0 ≤ j → j < n → (P j ↔ P' j)) → snN P set n = snN P' set n := by
  intro n
  induction n with
  | zero => intro _; rfl
  | succ n ih =>
    intro h
    unfold snN
    rw [ih (fun j j1 j2 => h j j1 (by omega))]
    have := h n (by omega) (by omega)
    by_cases c : P n
    · rw [pIf_t c, pIf_t (this.1 c)]
    · rw [pIf_f c, pIf_f (fun q => c (this.2 q))]
theorem cntP_c {P P' : Int → Prop} {a : Int} : ∀ n : Nat, (∀ j, a ≤ j → j < a + n → (P j ↔ P' j)) → cntP P a n = cntP P' a n := by
  intro n
  induction n with
  | zero => intro _; rfl
  | succ n ih =>
    intro h
    unfold cntP
    rw [ih (fun j j1 j2 => h j j1 (by omega))]
    have := h (a + n) (by omega) (by omega)
    by_cases c : P (a + n)
    · rw [pIf_t c, pIf_t (this.1 c)]
    · rw [pIf_f c, pIf_f (fun q => c (this.2 q))]
theorem mstN_c {N N' : Int → Int} {set : Int} {m : Nat} (h : ∀ j : Int, 0 ≤ j → j < m → N j = N' j) : ∀ n : Nat, n ≤ m → mstN N set m n = mstN N' set m n := by
  intro n
  induction n with
  | zero => intro _; rfl
  | succ n ih =>
    intro hn
    unfold mstN
    rw [ih (by omega), cntP_c (P' := fun j => (zAnd (zShr set n) 1 = 1 ∧ zAnd (zShr set j) 1 = 1) ∧ N' n = N' j) m (fun j j1 j2 => by rw [h n (by omega) (by omega), h j j1 (by omega)])]
theorem mstN_in {N : Int → Int} {set : Int} {m : Nat} : ∀ n : Nat, 0 ≤ mstN N set m n ∧ mstN N set m n ≤ m := by
  intro n
  induction n with
  | zero => unfold mstN; omega
  | succ n ih =>
    unfold mstN
    have := cntP_in (p := fun j => (zAnd (zShr set n) 1 = 1 ∧ zAnd (zShr set j) 1 = 1) ∧ N n = N j) (a := 0) m
    split <;> omega
theorem snN_i {P : Int → Prop} {set : Int} (h : inr set) : ∀ n : Nat, inr (snN P set n) := by
  intro n
  induction n with
  | zero => exact h
  | succ n ih =>
    unfold snN pIf
    split
    · exact ih
    · exact zAnd_i _ _
theorem seF_i {g : MG} (h1 : 0 ≤ g 1 0 ∧ g 1 0 ≤ 12) : ∀ k : Nat, inr (seF g k) := by
  intro k
  have := zShl_12 h1
  cases k with
  | zero => unfold seF; constructor <;> omega
  | succ k =>
    unfold seF
    refine snN_i ?_ _
    exact seF_i h1 k
section M31
variable {E : Ev} {am : Nat} {B : Nat → Nat} {h0 h : AH} {g : MG} {Q : Value → AH → Prop} {X : Nat → AH → Prop}
theorem c_sn51 (hB : MB am B) {set k : Int} (hr_g : Rng g) (hk : 0 ≤ k ∧ k < 6) (h1 : 0 ≤ g 1 0 ∧ g 1 0 ≤ 12) {z : Int} (hz : z = 0 ∨ z = 1) (K : ∀ v4, V E mX7_seen 5 0 103 [some (.ref am), some (vI (snN (fun n => z = 1 ∧ g 36 n = g 48 (2 * k + 1)) set (g 1 0).toNat)), some (vI k), some (vI z), v4] [] (mkM am B h0 g) Q X) : V E mX7_seen 5 0 51 [some (.ref am), some (vI set), some (vI k), some (vI z), some (vI 0)] [] (mkM am B h0 g) Q X := by
  have L : ∀ (m n : Nat), (n + m : Int) = g 1 0 → V E mX7_seen 5 0 51 [some (.ref am), some (vI (snN (fun n => z = 1 ∧ g 36 n = g 48 (2 * k + 1)) set n)), some (vI k), some (vI z), some (vI n)] [] (mkM am B h0 g) Q X := by
    intro m
    induction m with
    | zero =>
      intro n hn
      rw [show (g 1 0).toNat = n by omega] at K
      refine V_iload dX7_seen_51 rfl ?_
      refine V_aload_n dX7_seen_53 rfl ?_
      refine VM_getiE 1 (g 1 0) dX7_seen_54 q2607 (by decide) rfl rfl ?_
      refine V_icmp_ge 103 dX7_seen_57 (by decide) (by first | omega | exact hr_g _ _ | decide | exact zAnd_i _ _) (by first | omega | exact hr_g _ _ | decide | exact zAnd_i _ _) (fun c_57 => ?_) (fun c_57 => by exfalso; omega)
      exact K _
    | succ m ih =>
      intro n hn
      have ih := ih (n + 1) (by omega)
      unfold snN at ih
      generalize snN (fun n => z = 1 ∧ g 36 n = g 48 (2 * k + 1)) set n = f at *
      by_cases c : z = 1 ∧ g 36 n = g 48 (2 * k + 1)
      · rw [pIf_t c] at ih
        refine V_iload dX7_seen_51 rfl ?_
        refine V_aload_n dX7_seen_53 rfl ?_
        refine VM_getiE 1 (g 1 0) dX7_seen_54 q2607 (by decide) rfl rfl ?_
        refine V_icmp_ge 103 dX7_seen_57 (by decide) (by first | omega | exact hr_g _ _ | decide | exact zAnd_i _ _) (by first | omega | exact hr_g _ _ | decide | exact zAnd_i _ _) (fun c_57 => by exfalso; omega) (fun c_57 => ?_)
        refine V_iload_n dX7_seen_60 rfl ?_
        refine V_if_eq 88 dX7_seen_61 (by decide) (by first | omega | exact hr_g _ _ | decide | exact zAnd_i _ _) (fun c_61 => ?_) (fun c_61 => ?_)
        · exfalso; omega
        · refine V_aload_n dX7_seen_64 rfl ?_
          refine VM_geta 36 dX7_seen_65 q2642 (by decide) rfl ?_
          refine V_iload dX7_seen_68 rfl ?_
          refine VM_ialdE 36 (g 36 ((n : Int))) hB dX7_seen_70 mar36 rfl (by first | omega | (simp [gup, aup]; omega)) (by show _ < (12 : Int); first | omega | (simp [gup, aup]; omega)) (by decide) rfl ?_
          refine V_aload_n dX7_seen_71 rfl ?_
          refine VM_geta 48 dX7_seen_72 q2654 (by decide) rfl ?_
          refine V_iconst dX7_seen_75 ?_
          refine V_iload_n dX7_seen_76 rfl ?_
          refine V_imul dX7_seen_77 ?_
          refine V_iconst dX7_seen_78 ?_
          refine V_iadd dX7_seen_79 ?_
          refine VM_ialdE 48 (g 48 ((2 * k) + 1)) hB dX7_seen_80 mar48 rfl (by first | omega | (simp [gup, aup]; omega)) (by show _ < (12 : Int); first | omega | (simp [gup, aup]; omega)) (by decide) rfl ?_
          refine V_icmp_ne 88 dX7_seen_81 (by decide) (by first | omega | exact hr_g _ _ | decide | exact zAnd_i _ _) (by first | omega | exact hr_g _ _ | decide | exact zAnd_i _ _) (fun c_81 => ?_) (fun c_81 => ?_)
          · exfalso; omega
          · refine V_iload_n dX7_seen_84 rfl ?_
            refine V_goto 96 dX7_seen_85 (by decide) ?_
            refine V_istore_n dX7_seen_96 (by decide) ?_
            refine V_iinc dX7_seen_97 rfl (by decide) ?_
            refine V_goto 51 dX7_seen_100 (by decide) ?_
            exact ih
      · rw [pIf_f c] at ih
        refine V_iload dX7_seen_51 rfl ?_
        refine V_aload_n dX7_seen_53 rfl ?_
        refine VM_getiE 1 (g 1 0) dX7_seen_54 q2607 (by decide) rfl rfl ?_
        refine V_icmp_ge 103 dX7_seen_57 (by decide) (by first | omega | exact hr_g _ _ | decide | exact zAnd_i _ _) (by first | omega | exact hr_g _ _ | decide | exact zAnd_i _ _) (fun c_57 => by exfalso; omega) (fun c_57 => ?_)
        refine V_iload_n dX7_seen_60 rfl ?_
        refine V_if_eq 88 dX7_seen_61 (by decide) (by first | omega | exact hr_g _ _ | decide | exact zAnd_i _ _) (fun c_61 => ?_) (fun c_61 => ?_)
        · refine V_iload_n dX7_seen_88 rfl ?_
          refine V_iconst dX7_seen_89 ?_
          refine V_iload dX7_seen_90 rfl ?_
          refine V_ishl dX7_seen_92 ?_
          refine V_iconst dX7_seen_93 ?_
          refine V_ixor dX7_seen_94 ?_
          refine V_iand dX7_seen_95 ?_
          refine V_istore_n dX7_seen_96 (by decide) ?_
          refine V_iinc dX7_seen_97 rfl (by decide) ?_
          refine V_goto 51 dX7_seen_100 (by decide) ?_
          exact ih
        · refine V_aload_n dX7_seen_64 rfl ?_
          refine VM_geta 36 dX7_seen_65 q2642 (by decide) rfl ?_
          refine V_iload dX7_seen_68 rfl ?_
          refine VM_ialdE 36 (g 36 ((n : Int))) hB dX7_seen_70 mar36 rfl (by first | omega | (simp [gup, aup]; omega)) (by show _ < (12 : Int); first | omega | (simp [gup, aup]; omega)) (by decide) rfl ?_
          refine V_aload_n dX7_seen_71 rfl ?_
          refine VM_geta 48 dX7_seen_72 q2654 (by decide) rfl ?_
          refine V_iconst dX7_seen_75 ?_
          refine V_iload_n dX7_seen_76 rfl ?_
          refine V_imul dX7_seen_77 ?_
          refine V_iconst dX7_seen_78 ?_
          refine V_iadd dX7_seen_79 ?_
          refine VM_ialdE 48 (g 48 ((2 * k) + 1)) hB dX7_seen_80 mar48 rfl (by first | omega | (simp [gup, aup]; omega)) (by show _ < (12 : Int); first | omega | (simp [gup, aup]; omega)) (by decide) rfl ?_
          refine V_icmp_ne 88 dX7_seen_81 (by decide) (by first | omega | exact hr_g _ _ | decide | exact zAnd_i _ _) (by first | omega | exact hr_g _ _ | decide | exact zAnd_i _ _) (fun c_81 => ?_) (fun c_81 => ?_)
          · refine V_iload_n dX7_seen_88 rfl ?_
            refine V_iconst dX7_seen_89 ?_
            refine V_iload dX7_seen_90 rfl ?_
            refine V_ishl dX7_seen_92 ?_
            refine V_iconst dX7_seen_93 ?_
            refine V_ixor dX7_seen_94 ?_
            refine V_iand dX7_seen_95 ?_
            refine V_istore_n dX7_seen_96 (by decide) ?_
            refine V_iinc dX7_seen_97 rfl (by decide) ?_
            refine V_goto 51 dX7_seen_100 (by decide) ?_
            exact ih
          · exfalso; omega
  exact L (g 1 0).toNat 0 (by omega)
theorem c_X7_seen (hB : MB am B) (hr_g : Rng g) (hb : BI g) {c : Int} (hw : WI c (g 9)) (h49 : 0 ≤ g 49 0 ∧ g 49 0 ≤ 6) (K : ∀ g', Sm g g' → Q (vI (aWhich g)) (mkM am B h0 g')) : V E mX7_seen 5 0 0 [some (.ref am), none, none, none, none] [] (mkM am B h0 g) Q X := by
  have hb1 := hb.1
  have w0 := hw.1
  have L : ∀ (m k : Nat) (g1 : MG) (v3 v4 : Option Value), (k + m : Int) = g 49 0 → Sm g g1 → V E mX7_seen 5 0 11 [some (.ref am), some (vI (seF g k)), some (vI k), v3, v4] [] (mkM am B h0 g1) Q X := by
    intro m
    induction m with
    | zero =>
      intro k g1 v3 v4 hk hs
      have hr_g1 := hs.2
      have e49 : g1 49 0 = g 49 0 := by rw [hs.1 49 (by omega)]
      have K := K g1 hs
      unfold aWhich at K
      rw [show (g 49 0).toNat = k by omega] at K
      refine V_iload_n dX7_seen_11 rfl ?_
      refine V_aload_n dX7_seen_12 rfl ?_
      refine VM_getiE 49 (g1 49 0) dX7_seen_13 q2655 (by decide) rfl rfl ?_
      refine V_icmp_ge 109 dX7_seen_16 (by decide) (by first | omega | exact hr_g _ _ | decide | exact zAnd_i _ _) (by first | omega | exact hr_g _ _ | decide | exact zAnd_i _ _) (fun c_16 => ?_) (fun c_16 => by exfalso; omega)
      refine V_iload_n dX7_seen_109 rfl ?_
      exact V_iret dX7_seen_110 rfl (by exact K)
    | succ m ih =>
      intro k g1 v3 v4 hk hs
      have hr_g1 := hs.2
      have e49 : g1 49 0 = g 49 0 := by rw [hs.1 49 (by omega)]
      have f48 : g1 48 = g 48 := hs.1 48 (by omega)
      have f9 : g1 9 = g 9 := hs.1 9 (by omega)
      have e9 : g1 9 0 = g 9 0 := by rw [f9]
      have e1 : g1 1 0 = g 1 0 := by rw [hs.1 1 (by omega)]
      have e48 : g1 48 (2 * (k : Int)) = g 48 (2 * (k : Int)) := by rw [f48]
      have ih := fun g2 v3 v4 hs2 => ih (k + 1) g2 v3 v4 (by omega) hs2
      unfold seF at ih
      have L48 : ∀ (z : Int) (g2 : MG), Sm g g2 → (z = 0 ∨ z = 1) → (z = 1 ↔ (0 ≤ g 48 (2 * (k : Int)) ∧ g 48 (2 * (k : Int)) ≤ g 9 0)) → (z = 1 → ∀ j, 0 ≤ j → j < g 1 0 → g2 36 j = nAt g (g 48 (2 * (k : Int))) j) → V E mX7_seen 5 0 48 [some (.ref am), some (vI (seF g k)), some (vI k), some (vI z), v4] [] (mkM am B h0 g2) Q X := by
        intro z g2 hs2 hz hzi hN
        have hr_g2 := hs2.2
        have p1 : g2 1 0 = g 1 0 := by rw [hs2.1 1 (by omega)]
        have p48 : g2 48 = g 48 := hs2.1 48 (by omega)
        have es : snN (fun n => z = 1 ∧ g2 36 n = g2 48 (2 * (k : Int) + 1)) (seF g k) (g2 1 0).toNat = snN (fun n => (0 ≤ g 48 (2 * (k : Int)) ∧ g 48 (2 * (k : Int)) ≤ g 9 0) ∧ nAt g (g 48 (2 * (k : Int))) n = g 48 (2 * (k : Int) + 1)) (seF g k) (g 1 0).toNat := by
          rw [p1]
          refine snN_c _ (fun j j1 j2 => ?_)
          rw [p48, hzi]
          constructor
          · rintro ⟨q1, q2⟩
            rw [hN (hzi.2 q1) j j1 (by omega)] at q2
            exact ⟨q1, q2⟩
          · rintro ⟨q1, q2⟩
            refine ⟨q1, ?_⟩
            rw [hN (hzi.2 q1) j j1 (by omega)]
            exact q2
        refine V_iconst dX7_seen_48 ?_
        refine V_istore dX7_seen_49 (by decide) ?_
        refine c_sn51 hB hr_g2 (by omega) (by omega) hz (fun v4 => ?_); rw [es]; refine V_iinc dX7_seen_103 rfl (by decide) ?_; refine V_goto 11 dX7_seen_106 (by decide) ?_; exact ih g2 _ _ hs2
      refine V_iload_n dX7_seen_11 rfl ?_
      refine V_aload_n dX7_seen_12 rfl ?_
      refine VM_getiE 49 (g1 49 0) dX7_seen_13 q2655 (by decide) rfl rfl ?_
      refine V_icmp_ge 109 dX7_seen_16 (by decide) (by first | omega | exact hr_g1 _ _ | decide) (by first | omega | exact hr_g1 _ _ | decide) (fun c_16 => by exfalso; omega) (fun c_16 => ?_)
      refine V_aload_n dX7_seen_19 rfl ?_
      refine V_aload_n dX7_seen_20 rfl ?_
      refine VM_geta 48 dX7_seen_21 q2654 (by decide) rfl ?_
      refine V_iconst dX7_seen_24 ?_
      refine V_iload_n dX7_seen_25 rfl ?_
      refine V_imul dX7_seen_26 ?_
      refine VM_ialdE 48 (g1 48 (2 * ((k : Int)))) hB dX7_seen_27 mar48 rfl (by first | omega | (simp [gup, aup]; omega)) (by show _ < (12 : Int); first | omega | (simp [gup, aup]; omega)) (by decide) rfl ?_
      refine VM_c1 (M' := mX7_isTime) okX7_isTime rfl dX7_seen_28 q2931 rfl rfl (Nat.le_of_ble_eq_true rfl) (d' := 2) (b1 := 0) (by decide) (by decide) (c_X7_isTime hB hr_g1 (by first | omega | exact hr_g1 _ _ | decide) (fun c_28 => ?_) (fun c_28 => ?_))
      · refine V_istore_n dX7_seen_31 (by decide) ?_
        refine V_iload_n dX7_seen_32 rfl ?_
        refine V_if_eq 48 dX7_seen_33 (by decide) (by first | omega | exact hr_g1 _ _ | decide) (fun c_33 => absurd c_33 (by decide)) (fun c_33 => ?_)
        refine V_aload_n dX7_seen_36 rfl ?_
        refine V_aload_n dX7_seen_37 rfl ?_
        refine VM_geta 48 dX7_seen_38 q2654 (by decide) rfl ?_
        refine V_iconst dX7_seen_41 ?_
        refine V_iload_n dX7_seen_42 rfl ?_
        refine V_imul dX7_seen_43 ?_
        refine VM_ialdE 48 (g1 48 (2 * ((k : Int)))) hB dX7_seen_44 mar48 rfl (by first | omega | (simp [gup, aup]; omega)) (by show _ < (12 : Int); first | omega | (simp [gup, aup]; omega)) (by decide) rfl ?_
        refine VM_v1 (M' := mX7_laysAt) okX7_laysAt rfl dX7_seen_45 q2935 rfl rfl (Nat.le_of_ble_eq_true rfl) (d' := 4) (b1 := 0) (by decide) (by decide) (c_X7_laysAt hB hr_g1 (hr_g1 _ _) (hb.same (fun k hk => hs.1 k (by omega))) (c := c) (by rw [f9]; exact hw) (fun W F S q1 q2 q3 q4 => ?_))
        first | exact L48 0 g1 hs (Or.inl rfl) ⟨fun q => absurd q (by decide), fun q => by exfalso; omega⟩ (fun q => absurd q (by decide)) | exact L48 1 _ (((hs.set (by omega) q2).set (by omega) q3).set (by omega) q4) (Or.inr rfl) ⟨fun _ => by omega, fun _ => rfl⟩ (fun _ j j1 j2 => by rw [← e48]; exact (q1 j j1 (by omega)).trans (nAt_same hb (fun k hk => hs.1 k (by omega)) j1 j2))
      · refine V_istore_n dX7_seen_31 (by decide) ?_
        refine V_iload_n dX7_seen_32 rfl ?_
        refine V_if_eq 48 dX7_seen_33 (by decide) (by first | omega | exact hr_g1 _ _ | decide) (fun c_33 => ?_) (fun c_33 => absurd c_33 (by decide))
        first | exact L48 0 g1 hs (Or.inl rfl) ⟨fun q => absurd q (by decide), fun q => by exfalso; omega⟩ (fun q => absurd q (by decide)) | exact L48 1 _ (((hs.set (by omega) q2).set (by omega) q3).set (by omega) q4) (Or.inr rfl) ⟨fun _ => by omega, fun _ => rfl⟩ (fun _ j j1 j2 => by rw [← e48]; exact (q1 j j1 (by omega)).trans (nAt_same hb (fun k hk => hs.1 k (by omega)) j1 j2))
  refine V_iconst dX7_seen_0 ?_
  refine V_aload_n dX7_seen_1 rfl ?_
  refine VM_getiE 1 (g 1 0) dX7_seen_2 q2607 (by decide) rfl rfl ?_
  refine V_ishl dX7_seen_5 ?_
  refine V_iconst dX7_seen_6 ?_
  refine V_isub dX7_seen_7 ?_
  refine V_istore_n dX7_seen_8 (by decide) ?_
  refine V_iconst dX7_seen_9 ?_
  refine V_istore_n dX7_seen_10 (by decide) ?_
  exact L (g 49 0).toNat 0 g _ _ (by omega) (Sm.rfl' hr_g)
theorem c_X7_which (hB : MB am B) (hr_g : Rng g) (hb : BI g) {c : Int} (hw : WI c (g 9)) (h49 : 0 ≤ g 49 0 ∧ g 49 0 ≤ 6) (K : ∀ g', Sm g g' → Q (vI (aWhich g)) (mkM am B h0 g')) : V E mX7_which 6 0 0 [some (.ref am)] [] (mkM am B h0 g) Q X := by
  refine V_aload_n dX7_which_0 rfl ?_
  refine VM_c0 (M' := mX7_seen) okX7_seen rfl dX7_which_1 q3058 rfl rfl (Nat.le_of_ble_eq_true rfl) (d' := 5) (b1 := 0) (by decide) (by decide) (c_X7_seen hB hr_g hb hw h49 (fun g1 hs => ?_))
  exact V_iret dX7_which_4 rfl (by exact K g1 hs)
theorem c_X7_mostAlike (hB : MB am B) (hr_g : Rng g) {set : Int} (h1 : 0 ≤ g 1 0 ∧ g 1 0 ≤ 12) (K : Q (vI (mstN (g 36) set (g 1 0).toNat (g 1 0).toNat)) (mkM am B h0 g)) : V E mX7_mostAlike 1 0 0 [some (.ref am), some (vI set), none, none, none, none] [] (mkM am B h0 g) Q X := by
  have L : ∀ (m n : Nat) (v4 v5 : Option Value), (n + m : Int) = g 1 0 → V E mX7_mostAlike 1 0 4 [some (.ref am), some (vI set), some (vI (mstN (g 36) set (g 1 0).toNat n)), some (vI n), v4, v5] [] (mkM am B h0 g) Q X := by
    intro m
    induction m with
    | zero =>
      intro n v4 v5 hn
      rw [show (g 1 0).toNat = n by omega] at K ⊢
      refine V_iload_n dX7_mostAlike_4 rfl ?_
      refine V_aload_n dX7_mostAlike_5 rfl ?_
      refine VM_getiE 1 (g 1 0) dX7_mostAlike_6 q2607 (by decide) rfl rfl ?_
      refine V_icmp_ge 97 dX7_mostAlike_9 (by decide) (by first | omega | exact hr_g _ _ | decide | exact zAnd_i _ _) (by first | omega | exact hr_g _ _ | decide | exact zAnd_i _ _) (fun c_9 => ?_) (fun c_9 => by exfalso; omega)
      refine V_iload_n dX7_mostAlike_97 rfl ?_
      exact V_iret dX7_mostAlike_98 rfl (by exact K)
    | succ m ih =>
      intro n v4 v5 hn
      have ih := fun v4 v5 => ih (n + 1) v4 v5 (by omega)
      unfold mstN at ih
      have m1 := mstN_in (N := g 36) (set := set) (m := (g 1 0).toNat) n
      generalize mstN (g 36) set (g 1 0).toNat n = f at *
      have L78 : V E mX7_mostAlike 1 0 78 [some (.ref am), some (vI set), some (vI f), some (vI n), some (vI (cntP (fun j => (zAnd (zShr set n) 1 = 1 ∧ zAnd (zShr set j) 1 = 1) ∧ g 36 n = g 36 j) 0 (g 1 0).toNat)), some (vI (g 1 0))] [] (mkM am B h0 g) Q X := by
        have c1 := cntP_in (p := fun j => (zAnd (zShr set n) 1 = 1 ∧ zAnd (zShr set j) 1 = 1) ∧ g 36 n = g 36 j) (a := 0) (g 1 0).toNat
        generalize cntP (fun j => (zAnd (zShr set n) 1 = 1 ∧ zAnd (zShr set j) 1 = 1) ∧ g 36 n = g 36 j) 0 (g 1 0).toNat = z at *
        by_cases cz : f < z
        · simp only [if_pos cz] at ih
          refine V_iload dX7_mostAlike_78 rfl ?_
          refine V_iload_n dX7_mostAlike_80 rfl ?_
          refine V_icmp_le 89 dX7_mostAlike_81 (by decide) (by first | omega | exact hr_g _ _ | decide | exact zAnd_i _ _) (by first | omega | exact hr_g _ _ | decide | exact zAnd_i _ _) (fun c_81 => by exfalso; omega) (fun c_81 => ?_)
          refine V_iload dX7_mostAlike_84 rfl ?_
          refine V_goto 90 dX7_mostAlike_86 (by decide) ?_
          refine V_istore_n dX7_mostAlike_90 (by decide) ?_
          refine V_iinc dX7_mostAlike_91 rfl (by decide) ?_
          refine V_goto 4 dX7_mostAlike_94 (by decide) ?_
          exact ih _ _
        · simp only [if_neg cz] at ih
          refine V_iload dX7_mostAlike_78 rfl ?_
          refine V_iload_n dX7_mostAlike_80 rfl ?_
          refine V_icmp_le 89 dX7_mostAlike_81 (by decide) (by first | omega | exact hr_g _ _ | decide | exact zAnd_i _ _) (by first | omega | exact hr_g _ _ | decide | exact zAnd_i _ _) (fun c_81 => ?_) (fun c_81 => by exfalso; omega)
          refine V_iload_n dX7_mostAlike_89 rfl ?_
          refine V_istore_n dX7_mostAlike_90 (by decide) ?_
          refine V_iinc dX7_mostAlike_91 rfl (by decide) ?_
          refine V_goto 4 dX7_mostAlike_94 (by decide) ?_
          exact ih _ _
      have L18 : ∀ (q p : Nat), (p + q : Int) = g 1 0 → V E mX7_mostAlike 1 0 18 [some (.ref am), some (vI set), some (vI f), some (vI n), some (vI (cntP (fun j => (zAnd (zShr set n) 1 = 1 ∧ zAnd (zShr set j) 1 = 1) ∧ g 36 n = g 36 j) 0 p)), some (vI p)] [] (mkM am B h0 g) Q X := by
        intro q
        induction q with
        | zero =>
          intro p hp
          rw [show (g 1 0).toNat = p by omega, show g 1 0 = (p : Int) by omega] at L78
          refine V_iload dX7_mostAlike_18 rfl ?_
          refine V_aload_n dX7_mostAlike_20 rfl ?_
          refine VM_getiE 1 (g 1 0) dX7_mostAlike_21 q2607 (by decide) rfl rfl ?_
          refine V_icmp_ge 78 dX7_mostAlike_24 (by decide) (by first | omega | exact hr_g _ _ | decide | exact zAnd_i _ _) (by first | omega | exact hr_g _ _ | decide | exact zAnd_i _ _) (fun c_24 => ?_) (fun c_24 => by exfalso; omega)
          exact L78
        | succ q ihq =>
          intro p hp
          have ihq := ihq (p + 1) (by omega)
          unfold cntP at ihq
          rw [Int.zero_add] at ihq
          generalize cntP (fun j => (zAnd (zShr set n) 1 = 1 ∧ zAnd (zShr set j) 1 = 1) ∧ g 36 n = g 36 j) 0 p = z at *
          by_cases cz : (zAnd (zShr set n) 1 = 1 ∧ zAnd (zShr set p) 1 = 1) ∧ g 36 n = g 36 p
          · rw [pIf_t cz] at ihq
            refine V_iload dX7_mostAlike_18 rfl ?_
            refine V_aload_n dX7_mostAlike_20 rfl ?_
            refine VM_getiE 1 (g 1 0) dX7_mostAlike_21 q2607 (by decide) rfl rfl ?_
            refine V_icmp_ge 78 dX7_mostAlike_24 (by decide) (by first | omega | exact hr_g _ _ | decide | exact zAnd_i _ _) (by first | omega | exact hr_g _ _ | decide | exact zAnd_i _ _) (fun c_24 => by exfalso; omega) (fun c_24 => ?_)
            refine V_iload dX7_mostAlike_27 rfl ?_
            refine V_iload_n dX7_mostAlike_29 rfl ?_
            refine V_iload_n dX7_mostAlike_30 rfl ?_
            refine V_ishr dX7_mostAlike_31 ?_
            refine V_iconst dX7_mostAlike_32 ?_
            refine V_iand dX7_mostAlike_33 ?_
            refine V_iconst dX7_mostAlike_34 ?_
            refine V_icmp_ne 68 dX7_mostAlike_35 (by decide) (by first | omega | exact hr_g _ _ | decide | exact zAnd_i _ _) (by first | omega | exact hr_g _ _ | decide | exact zAnd_i _ _) (fun c_35 => ?_) (fun c_35 => ?_)
            · exfalso; omega
            · refine V_iload_n dX7_mostAlike_38 rfl ?_
              refine V_iload dX7_mostAlike_39 rfl ?_
              refine V_ishr dX7_mostAlike_41 ?_
              refine V_iconst dX7_mostAlike_42 ?_
              refine V_iand dX7_mostAlike_43 ?_
              refine V_iconst dX7_mostAlike_44 ?_
              refine V_icmp_ne 68 dX7_mostAlike_45 (by decide) (by first | omega | exact hr_g _ _ | decide | exact zAnd_i _ _) (by first | omega | exact hr_g _ _ | decide | exact zAnd_i _ _) (fun c_45 => ?_) (fun c_45 => ?_)
              · exfalso; omega
              · refine V_aload_n dX7_mostAlike_48 rfl ?_
                refine VM_geta 36 dX7_mostAlike_49 q2642 (by decide) rfl ?_
                refine V_iload_n dX7_mostAlike_52 rfl ?_
                refine VM_ialdE 36 (g 36 ((n : Int))) hB dX7_mostAlike_53 mar36 rfl (by first | omega | (simp [gup, aup]; omega)) (by show _ < (12 : Int); first | omega | (simp [gup, aup]; omega)) (by decide) rfl ?_
                refine V_aload_n dX7_mostAlike_54 rfl ?_
                refine VM_geta 36 dX7_mostAlike_55 q2642 (by decide) rfl ?_
                refine V_iload dX7_mostAlike_58 rfl ?_
                refine VM_ialdE 36 (g 36 ((p : Int))) hB dX7_mostAlike_60 mar36 rfl (by first | omega | (simp [gup, aup]; omega)) (by show _ < (12 : Int); first | omega | (simp [gup, aup]; omega)) (by decide) rfl ?_
                refine V_icmp_ne 68 dX7_mostAlike_61 (by decide) (by first | omega | exact hr_g _ _ | decide | exact zAnd_i _ _) (by first | omega | exact hr_g _ _ | decide | exact zAnd_i _ _) (fun c_61 => ?_) (fun c_61 => ?_)
                · exfalso; omega
                · refine V_iconst dX7_mostAlike_64 ?_
                  refine V_goto 69 dX7_mostAlike_65 (by decide) ?_
                  refine V_iadd dX7_mostAlike_69 ?_
                  refine V_istore dX7_mostAlike_70 (by decide) ?_
                  refine V_iinc dX7_mostAlike_72 rfl (by decide) ?_
                  refine V_goto 18 dX7_mostAlike_75 (by decide) ?_
                  exact ihq
          · rw [pIf_f cz] at ihq
            refine V_iload dX7_mostAlike_18 rfl ?_
            refine V_aload_n dX7_mostAlike_20 rfl ?_
            refine VM_getiE 1 (g 1 0) dX7_mostAlike_21 q2607 (by decide) rfl rfl ?_
            refine V_icmp_ge 78 dX7_mostAlike_24 (by decide) (by first | omega | exact hr_g _ _ | decide | exact zAnd_i _ _) (by first | omega | exact hr_g _ _ | decide | exact zAnd_i _ _) (fun c_24 => by exfalso; omega) (fun c_24 => ?_)
            refine V_iload dX7_mostAlike_27 rfl ?_
            refine V_iload_n dX7_mostAlike_29 rfl ?_
            refine V_iload_n dX7_mostAlike_30 rfl ?_
            refine V_ishr dX7_mostAlike_31 ?_
            refine V_iconst dX7_mostAlike_32 ?_
            refine V_iand dX7_mostAlike_33 ?_
            refine V_iconst dX7_mostAlike_34 ?_
            refine V_icmp_ne 68 dX7_mostAlike_35 (by decide) (by first | omega | exact hr_g _ _ | decide | exact zAnd_i _ _) (by first | omega | exact hr_g _ _ | decide | exact zAnd_i _ _) (fun c_35 => ?_) (fun c_35 => ?_)
            · refine V_iconst dX7_mostAlike_68 ?_
              refine V_iadd dX7_mostAlike_69 ?_
              refine V_istore dX7_mostAlike_70 (by decide) ?_
              refine V_iinc dX7_mostAlike_72 rfl (by decide) ?_
              refine V_goto 18 dX7_mostAlike_75 (by decide) ?_
              exact ihq
            · refine V_iload_n dX7_mostAlike_38 rfl ?_
              refine V_iload dX7_mostAlike_39 rfl ?_
              refine V_ishr dX7_mostAlike_41 ?_
              refine V_iconst dX7_mostAlike_42 ?_
              refine V_iand dX7_mostAlike_43 ?_
              refine V_iconst dX7_mostAlike_44 ?_
              refine V_icmp_ne 68 dX7_mostAlike_45 (by decide) (by first | omega | exact hr_g _ _ | decide | exact zAnd_i _ _) (by first | omega | exact hr_g _ _ | decide | exact zAnd_i _ _) (fun c_45 => ?_) (fun c_45 => ?_)
              · refine V_iconst dX7_mostAlike_68 ?_
                refine V_iadd dX7_mostAlike_69 ?_
                refine V_istore dX7_mostAlike_70 (by decide) ?_
                refine V_iinc dX7_mostAlike_72 rfl (by decide) ?_
                refine V_goto 18 dX7_mostAlike_75 (by decide) ?_
                exact ihq
              · refine V_aload_n dX7_mostAlike_48 rfl ?_
                refine VM_geta 36 dX7_mostAlike_49 q2642 (by decide) rfl ?_
                refine V_iload_n dX7_mostAlike_52 rfl ?_
                refine VM_ialdE 36 (g 36 ((n : Int))) hB dX7_mostAlike_53 mar36 rfl (by first | omega | (simp [gup, aup]; omega)) (by show _ < (12 : Int); first | omega | (simp [gup, aup]; omega)) (by decide) rfl ?_
                refine V_aload_n dX7_mostAlike_54 rfl ?_
                refine VM_geta 36 dX7_mostAlike_55 q2642 (by decide) rfl ?_
                refine V_iload dX7_mostAlike_58 rfl ?_
                refine VM_ialdE 36 (g 36 ((p : Int))) hB dX7_mostAlike_60 mar36 rfl (by first | omega | (simp [gup, aup]; omega)) (by show _ < (12 : Int); first | omega | (simp [gup, aup]; omega)) (by decide) rfl ?_
                refine V_icmp_ne 68 dX7_mostAlike_61 (by decide) (by first | omega | exact hr_g _ _ | decide | exact zAnd_i _ _) (by first | omega | exact hr_g _ _ | decide | exact zAnd_i _ _) (fun c_61 => ?_) (fun c_61 => ?_)
                · refine V_iconst dX7_mostAlike_68 ?_
                  refine V_iadd dX7_mostAlike_69 ?_
                  refine V_istore dX7_mostAlike_70 (by decide) ?_
                  refine V_iinc dX7_mostAlike_72 rfl (by decide) ?_
                  refine V_goto 18 dX7_mostAlike_75 (by decide) ?_
                  exact ihq
                · exfalso; omega
      refine V_iload_n dX7_mostAlike_4 rfl ?_
      refine V_aload_n dX7_mostAlike_5 rfl ?_
      refine VM_getiE 1 (g 1 0) dX7_mostAlike_6 q2607 (by decide) rfl rfl ?_
      refine V_icmp_ge 97 dX7_mostAlike_9 (by decide) (by first | omega | exact hr_g _ _ | decide | exact zAnd_i _ _) (by first | omega | exact hr_g _ _ | decide | exact zAnd_i _ _) (fun c_9 => by exfalso; omega) (fun c_9 => ?_)
      refine V_iconst dX7_mostAlike_12 ?_
      refine V_istore dX7_mostAlike_13 (by decide) ?_
      refine V_iconst dX7_mostAlike_15 ?_
      refine V_istore dX7_mostAlike_16 (by decide) ?_
      exact L18 (g 1 0).toNat 0 (by omega)
  refine V_iconst dX7_mostAlike_0 ?_
  refine V_istore_n dX7_mostAlike_1 (by decide) ?_
  refine V_iconst dX7_mostAlike_2 ?_
  refine V_istore_n dX7_mostAlike_3 (by decide) ?_
  exact L (g 1 0).toNat 0 _ _ (by omega)
theorem c_lk28 (hB : MB am B) {set : Int} (hb : BI g) {c : Int} (hw : WI c (g 9)) {T : Int → Int} (hT : TO T (isT (g 9))) : ∀ (m : Nat) (t found few : Int) (v5 : Option Value), t + m = g 9 0 + 1 → 0 ≤ t → (found = -9 ∨ (0 ≤ found ∧ found < t)) → (0 ≤ few ∧ few ≤ 12) → ∀ g', Sm g g' → g' 39 = T → (0 < t → found ≠ -9 ∧ few ≤ mstN (nAt g (t - 1)) set (g 1 0).toNat (g 1 0).toNat) → (∀ g', Sm g g' → Q (vI (lkN (fun t => mstN (nAt g t) set (g 1 0).toNat (g 1 0).toNat) m t found few)) (mkM am B h0 g')) → V E mX7_look 6 0 28 [some (.ref am), some (vI set), some (vI found), some (vI few), some (vI t), v5] [] (mkM am B h0 g') Q X := by
  have hb1 := hb.1
  have w0 := hw.1
  intro m
  induction m with
  | zero =>
    intro t found few v5 ht h1 hf hfe g' hs h39 hfw K
    have hr_g' := hs.2
    have e9 : g' 9 = g 9 := hs.1 9 (by omega)
    have e90 : g' 9 0 = g 9 0 := by rw [e9]
    have K := K g' hs
    unfold lkN at K
    refine V_iload dX7_look_28 rfl ?_
    refine V_aload_n dX7_look_30 rfl ?_
    refine VM_geta 9 dX7_look_31 q2615 (by decide) rfl ?_
    refine V_iconst dX7_look_34 ?_
    refine VM_ialdE 9 (g' 9 0) hB dX7_look_35 mar9 rfl (by first | omega | (simp [gup, aup]; omega)) (by show _ < (209 : Int); first | omega | (simp [gup, aup]; omega)) (by decide) rfl ?_
    refine V_icmp_gt 86 dX7_look_36 (by decide) (by first | omega | exact hr_g' _ _ | decide) (by first | omega | exact hr_g' _ _ | decide) (fun c_36 => ?_) (fun c_36 => by exfalso; omega)
    refine V_iload_n dX7_look_86 rfl ?_
    exact V_iret dX7_look_87 rfl (by exact K)
  | succ m ih =>
    intro t found few v5 ht h1 hf hfe g' hs h39 hfw K
    have hr_g' := hs.2
    have e9 : g' 9 = g 9 := hs.1 9 (by omega)
    have e90 : g' 9 0 = g 9 0 := by rw [e9]
    have e1 : g' 1 0 = g 1 0 := by rw [hs.1 1 (by omega)]
    have hTt := hT.2 t h1 (by omega)
    have e39 : g' 39 t = T t := by rw [h39]
    have mi := mstN_in (N := nAt g t) (set := set) (m := (g 1 0).toNat) (g 1 0).toNat
    unfold lkN at K
    by_cases ct : T t = 1
    · have L55 : ∀ W F S : Int → Int, (∀ j, inr (W j)) → (∀ j, inr (F j)) → (∀ j, inr (S j)) → (∀ j, 0 ≤ j → j < g' 1 0 → F j = nAt g' t j) → V E mX7_look 6 0 55 [some (.ref am), some (vI set), some (vI found), some (vI few), some (vI t), v5] [] (mkM am B h0 (s3 g' W F S)) Q X := by
        intro W F S r1 r2 r3 r4
        have hs3 : Sm g (s3 g' W F S) := ((hs.set (by omega) r1).set (by omega) r2).set (by omega) r3
        obtain ⟨g3, hg3⟩ : ∃ g3, g3 = s3 g' W F S := ⟨_, rfl⟩
        have p39 : g3 39 = T := by rw [hg3, s3_ne (by omega)]; exact h39
        have p36 : ∀ j, 0 ≤ j → j < g 1 0 → g3 36 j = nAt g t j := fun j j1 j2 => by
          rw [hg3]; exact (r4 j j1 (by omega)).trans (nAt_same hb (fun k hk => hs.1 k (by omega)) j1 j2)
        rw [← hg3] at hs3 ⊢
        have hr_g3 := hs3.2
        have d1 : g3 1 0 = g 1 0 := by rw [hs3.1 1 (by omega)]
        have em : mstN (g3 36) set (g3 1 0).toNat (g3 1 0).toNat = mstN (nAt g t) set (g 1 0).toNat (g 1 0).toNat := by
          rw [d1]
          exact mstN_c (fun j j1 j2 => p36 j j1 (by omega)) _ (Nat.le_refl _)
        have ek : t + 1 - 1 = t := by omega
        by_cases cf : found = -9 ∨ mstN (nAt g t) set (g 1 0).toNat (g 1 0).toNat < few
        · simp only [if_pos cf] at K
          refine V_aload_n dX7_look_55 rfl ?_
          refine V_iload_n dX7_look_56 rfl ?_
          refine VM_c1 (M' := mX7_mostAlike) okX7_mostAlike rfl dX7_look_57 q3066 rfl rfl (Nat.le_of_ble_eq_true rfl) (d' := 1) (b1 := 0) (by decide) (by decide) (c_X7_mostAlike hB hr_g3 (by omega) ?_)
          refine V_top (mstN (nAt g t) set (g 1 0).toNat (g 1 0).toNat) (by exact em) ?_
          refine V_istore dX7_look_60 (by decide) ?_
          refine V_iload_n dX7_look_62 rfl ?_
          refine V_bipush dX7_look_63 (by decide) ?_
          refine V_icmp_eq 74 dX7_look_65 (by decide) (by first | omega | exact hr_g _ _ | decide | exact zAnd_i _ _) (by first | omega | exact hr_g _ _ | decide | exact zAnd_i _ _) (fun c_65 => ?_) (fun c_65 => ?_)
          · refine V_iload dX7_look_74 rfl ?_
            refine V_istore_n dX7_look_76 (by decide) ?_
            refine V_iload dX7_look_77 rfl ?_
            refine V_istore_n dX7_look_79 (by decide) ?_
            first | (exfalso; omega) | (refine V_iinc dX7_look_80 rfl (by decide) ?_; refine V_goto 28 dX7_look_83 (by decide) ?_; exact ih (t + 1) t _ _ (by omega) (by omega) (by omega) (by omega) g3 hs3 p39 (fun _ => ⟨by omega, by rw [ek]; omega⟩) K)
          · refine V_iload dX7_look_68 rfl ?_
            refine V_iload_n dX7_look_70 rfl ?_
            refine V_icmp_ge 80 dX7_look_71 (by decide) (by first | omega | exact hr_g _ _ | decide | exact zAnd_i _ _) (by first | omega | exact hr_g _ _ | decide | exact zAnd_i _ _) (fun c_71 => ?_) (fun c_71 => ?_)
            · first | (exfalso; omega) | (refine V_iinc dX7_look_80 rfl (by decide) ?_; refine V_goto 28 dX7_look_83 (by decide) ?_; exact ih (t + 1) t _ _ (by omega) (by omega) (by omega) (by omega) g3 hs3 p39 (fun _ => ⟨by omega, by rw [ek]; omega⟩) K)
            · refine V_iload dX7_look_74 rfl ?_
              refine V_istore_n dX7_look_76 (by decide) ?_
              refine V_iload dX7_look_77 rfl ?_
              refine V_istore_n dX7_look_79 (by decide) ?_
              first | (exfalso; omega) | (refine V_iinc dX7_look_80 rfl (by decide) ?_; refine V_goto 28 dX7_look_83 (by decide) ?_; exact ih (t + 1) t _ _ (by omega) (by omega) (by omega) (by omega) g3 hs3 p39 (fun _ => ⟨by omega, by rw [ek]; omega⟩) K)
        · simp only [if_neg cf] at K
          refine V_aload_n dX7_look_55 rfl ?_
          refine V_iload_n dX7_look_56 rfl ?_
          refine VM_c1 (M' := mX7_mostAlike) okX7_mostAlike rfl dX7_look_57 q3066 rfl rfl (Nat.le_of_ble_eq_true rfl) (d' := 1) (b1 := 0) (by decide) (by decide) (c_X7_mostAlike hB hr_g3 (by omega) ?_)
          refine V_top (mstN (nAt g t) set (g 1 0).toNat (g 1 0).toNat) (by exact em) ?_
          refine V_istore dX7_look_60 (by decide) ?_
          refine V_iload_n dX7_look_62 rfl ?_
          refine V_bipush dX7_look_63 (by decide) ?_
          refine V_icmp_eq 74 dX7_look_65 (by decide) (by first | omega | exact hr_g _ _ | decide | exact zAnd_i _ _) (by first | omega | exact hr_g _ _ | decide | exact zAnd_i _ _) (fun c_65 => ?_) (fun c_65 => ?_)
          · exfalso; omega
          · refine V_iload dX7_look_68 rfl ?_
            refine V_iload_n dX7_look_70 rfl ?_
            refine V_icmp_ge 80 dX7_look_71 (by decide) (by first | omega | exact hr_g _ _ | decide | exact zAnd_i _ _) (by first | omega | exact hr_g _ _ | decide | exact zAnd_i _ _) (fun c_71 => ?_) (fun c_71 => ?_)
            · refine V_iinc dX7_look_80 rfl (by decide) ?_
              refine V_goto 28 dX7_look_83 (by decide) ?_
              exact ih (t + 1) found few _ (by omega) (by omega) (by omega) (by omega) g3 hs3 p39 (fun _ => ⟨by omega, by rw [ek]; omega⟩) K
            · exfalso; omega
      refine V_iload dX7_look_28 rfl ?_
      refine V_aload_n dX7_look_30 rfl ?_
      refine VM_geta 9 dX7_look_31 q2615 (by decide) rfl ?_
      refine V_iconst dX7_look_34 ?_
      refine VM_ialdE 9 (g' 9 0) hB dX7_look_35 mar9 rfl (by first | omega | (simp [gup, aup]; omega)) (by show _ < (209 : Int); first | omega | (simp [gup, aup]; omega)) (by decide) rfl ?_
      refine V_icmp_gt 86 dX7_look_36 (by decide) (by first | omega | exact hr_g' _ _ | decide) (by first | omega | exact hr_g' _ _ | decide) (fun c_36 => by exfalso; omega) (fun c_36 => ?_)
      refine V_aload_n dX7_look_39 rfl ?_
      refine VM_geta 39 dX7_look_40 q2645 (by decide) rfl ?_
      refine V_iload dX7_look_43 rfl ?_
      refine VM_zaldE 39 (g' 39 t) hB dX7_look_45 mar39 rfl (by first | omega | (simp [gup, aup]; omega)) (by show _ < (1002 : Int); first | omega | (simp [gup, aup]; omega)) (by decide) rfl ?_
      refine V_if_eq 80 dX7_look_46 (by decide) (by first | omega | exact hr_g' _ _ | decide) (fun c_46 => by exfalso; omega) (fun c_46 => ?_)
      refine V_aload_n dX7_look_49 rfl ?_
      refine V_iload dX7_look_50 rfl ?_
      refine VM_v1 (M' := mX7_laysAt) okX7_laysAt rfl dX7_look_52 q2935 rfl rfl (Nat.le_of_ble_eq_true rfl) (d' := 4) (b1 := 0) (by decide) (by decide) (c_X7_laysAt hB hr_g' (by first | omega | exact hr_g' _ _ | decide) (hb.same (fun k hk => hs.1 k (by omega))) (c := c) (by rw [e9]; exact hw) (fun W F S q1 q2 q3 q4 => ?_))
      exact L55 W F S q2 q3 q4 q1
    · have nT : ¬ isT (g 9) t := fun z => ct (hTt.2.2 z)
      have ht0 : 0 < t := by
        by_cases c0 : t = 0
        · exact absurd (Or.inl c0) nT
        · omega
      have e : nAt g t = nAt g (t - 1) := by unfold nAt; rw [wvAt_s hw nT]
      have hfw := hfw ht0
      rw [← e] at hfw
      have cf : ¬ (found = -9 ∨ mstN (nAt g t) set (g 1 0).toNat (g 1 0).toNat < few) := by omega
      simp only [if_neg cf] at K
      refine V_iload dX7_look_28 rfl ?_
      refine V_aload_n dX7_look_30 rfl ?_
      refine VM_geta 9 dX7_look_31 q2615 (by decide) rfl ?_
      refine V_iconst dX7_look_34 ?_
      refine VM_ialdE 9 (g' 9 0) hB dX7_look_35 mar9 rfl (by first | omega | (simp [gup, aup]; omega)) (by show _ < (209 : Int); first | omega | (simp [gup, aup]; omega)) (by decide) rfl ?_
      refine V_icmp_gt 86 dX7_look_36 (by decide) (by first | omega | exact hr_g' _ _ | decide) (by first | omega | exact hr_g' _ _ | decide) (fun c_36 => by exfalso; omega) (fun c_36 => ?_)
      refine V_aload_n dX7_look_39 rfl ?_
      refine VM_geta 39 dX7_look_40 q2645 (by decide) rfl ?_
      refine V_iload dX7_look_43 rfl ?_
      refine VM_zaldE 39 (g' 39 t) hB dX7_look_45 mar39 rfl (by first | omega | (simp [gup, aup]; omega)) (by show _ < (1002 : Int); first | omega | (simp [gup, aup]; omega)) (by decide) rfl ?_
      refine V_if_eq 80 dX7_look_46 (by decide) (by first | omega | exact hr_g' _ _ | decide) (fun c_46 => ?_) (fun c_46 => by exfalso; omega)
      refine V_iinc dX7_look_80 rfl (by decide) ?_
      refine V_goto 28 dX7_look_83 (by decide) ?_
      exact ih (t + 1) found few _ (by omega) (by omega) (by omega) hfe g' hs h39 (fun _ => by rw [show t + 1 - 1 = t by omega]; exact hfw) K
theorem c_X7_look (hB : MB am B) (hr_g : Rng g) (hb : BI g) {c : Int} (hw : WI c (g 9)) (h49 : 0 ≤ g 49 0 ∧ g 49 0 ≤ 6) (K : ∀ g', Sm g g' → Q (vI (aLook g)) (mkM am B h0 g')) : V E mX7_look 6 0 0 [some (.ref am), none, none, none, none, none] [] (mkM am B h0 g) Q X := by
  have hb1 := hb.1
  have w0 := hw.1
  unfold aLook at K
  have L4 : ∀ g1, Sm g g1 → V E mX7_look 6 0 4 [some (.ref am), none, none, none, none, none] [vI (aWhich g)] (mkM am B h0 g1) Q X := by
    intro g1 hs
    have hr_g1 := hs.2
    have f9 : g1 9 = g 9 := hs.1 9 (by omega)
    by_cases cz : zAnd (aWhich g) (aWhich g - 1) = 0
    · simp only [if_pos cz] at K
      generalize aWhich g = set at *
      refine V_istore_n dX7_look_4 (by decide) ?_
      refine V_iload_n dX7_look_5 rfl ?_
      refine V_iload_n dX7_look_6 rfl ?_
      refine V_iconst dX7_look_7 ?_
      refine V_isub dX7_look_8 ?_
      refine V_iand dX7_look_9 ?_
      refine V_if_ne 16 dX7_look_10 (by decide) (by first | omega | exact hr_g _ _ | decide | exact zAnd_i _ _) (fun c_10 => by exfalso; omega) (fun c_10 => ?_)
      refine V_bipush dX7_look_13 (by decide) ?_
      exact V_iret dX7_look_15 rfl (by exact K g1 hs)
    · simp only [if_neg cz] at K
      generalize aWhich g = set at *
      refine V_istore_n dX7_look_4 (by decide) ?_
      refine V_iload_n dX7_look_5 rfl ?_
      refine V_iload_n dX7_look_6 rfl ?_
      refine V_iconst dX7_look_7 ?_
      refine V_isub dX7_look_8 ?_
      refine V_iand dX7_look_9 ?_
      refine V_if_ne 16 dX7_look_10 (by decide) (by first | omega | exact hr_g _ _ | decide | exact zAnd_i _ _) (fun c_10 => ?_) (fun c_10 => by exfalso; omega)
      refine V_aload_n dX7_look_16 rfl ?_
      refine VM_v0 (M' := mX7_laysTurns) okX7_laysTurns rfl dX7_look_17 q2954 rfl rfl (Nat.le_of_ble_eq_true rfl) (d' := 2) (b1 := 0) (by decide) (by decide) (c_X7_laysTurns hB hr_g1 (c := c) (by rw [f9]; exact hw) (fun T hT => ?_))
      refine V_bipush dX7_look_20 (by decide) ?_
      refine V_istore_n dX7_look_22 (by decide) ?_
      refine V_iconst dX7_look_23 ?_
      refine V_istore_n dX7_look_24 (by decide) ?_
      refine V_iconst dX7_look_25 ?_
      refine V_istore dX7_look_26 (by decide) ?_
      rw [f9] at hT; exact c_lk28 hB hb hw hT (g 9 0 + 1).toNat 0 (-9) 0 _ (by omega) (by omega) (Or.inl rfl) (by omega) _ (hs.set (by omega) hT.1) rfl (fun z => by omega) K
  refine V_aload_n dX7_look_0 rfl ?_
  refine VM_c0 (M' := mX7_seen) okX7_seen rfl dX7_look_1 q3058 rfl rfl (Nat.le_of_ble_eq_true rfl) (d' := 5) (b1 := 0) (by decide) (by decide) (c_X7_seen hB hr_g hb hw h49 (fun g1 hs => ?_))
  exact L4 g1 hs
end M31
