/-! THE REFERENCE'S METHODS, part 30: rooms of other sizes; which was seen -/
section M30
variable {E : Ev} {am : Nat} {B : Nat → Nat} {h0 h : AH} {g : MG} {Q : Value → AH → Prop} {X : Nat → AH → Prop}
theorem c_pk13 (hB : MB am B) {k c : Int} (hk : 1 ≤ k ∧ k ≤ 8) (hw : WI c (g 9)) (hg2 : 0 ≤ g 2 0 ∧ g 2 0 ≤ 6) : ∀ (m : Nat) (b bg room : Int) (l : List (Int × Int)) (g1 : MG), Sr g g1 → RL g1 l → b + m = g 9 3 → 0 ≤ b → (l.length : Int) ≤ 8 * b → (∀ x ∈ l, 0 ≤ x.1 ∧ x.1 ≤ 999) → (bg = -9 ∨ (0 ≤ bg ∧ bg ≤ 999)) → (∀ g', Sr g g' → Q (vI (pkF (g 9) k (2 + g 2 0) m b bg l room)) (mkM am B h0 g')) → V E mX7_packedBy 4 0 13 [some (.ref am), some (vI k), some (vI room), some (vI bg), some (vI b)] [] (mkM am B h0 g1) Q X := by
  have w0 := hw.1
  have w3 := hw.2.2.2.1
  intro m
  induction m with
  | zero =>
    intro b bg room l g1 hs hR hb h0b hl hx hbg K
    have hr_g1 := hs.2
    have e9 : g1 9 3 = g 9 3 := by rw [hs.1 9 (by omega)]
    have K := K g1 hs
    unfold pkF at K
    refine V_iload dX7_packedBy_13 rfl ?_
    refine V_aload_n dX7_packedBy_15 rfl ?_
    refine VM_geta 9 dX7_packedBy_16 q2615 (by decide) rfl ?_
    refine V_iconst dX7_packedBy_19 ?_
    refine VM_ialdE 9 (g1 9 3) hB dX7_packedBy_20 mar9 rfl (by first | omega | (simp [gup, aup]; omega)) (by show _ < (209 : Int); first | omega | (simp [gup, aup]; omega)) (by decide) rfl ?_
    refine V_icmp_ge 104 dX7_packedBy_21 (by decide) (by first | omega | exact hr_g1 _ _ | decide) (by first | omega | exact hr_g1 _ _ | decide) (fun c_21 => ?_) (fun c_21 => by exfalso; omega)
    refine V_iload_n dX7_packedBy_104 rfl ?_
    exact V_iret dX7_packedBy_105 rfl (by exact K)
  | succ m ih =>
    intro b bg room l g1 hs hR hb h0b hl hx hbg K
    have hr_g1 := hs.2
    have f9 : g1 9 = g 9 := hs.1 9 (by omega)
    have e9 : g1 9 3 = g 9 3 := by rw [f9]
    have e9b : g1 9 (11 + 33 * b) = g 9 (11 + 33 * b) := by rw [f9]
    have f2 : g1 2 = g 2 := hs.1 2 (by omega)
    obtain ⟨t1, t2, t3⟩ := chs_t (b := b) hw ⟨h0b, by omega⟩
    have wb1 := (hw.2.2.2.2.2.2 b h0b (by omega)).1
    have hl2 : (l ++ chs (g 9) b).length = l.length + (chs (g 9) b).length := List.length_append
    have hx2 : ∀ x ∈ l ++ chs (g 9) b, 0 ≤ x.1 ∧ x.1 ≤ 999 := fun x hxm => (List.mem_append.1 hxm).elim (hx x) (t2 x)
    have L44 : ∀ bg' : Int, bg' = (if bg = -9 then g 9 (11 + 33 * b) else bg) → (0 ≤ bg' ∧ bg' ≤ 999) → V E mX7_packedBy 4 0 45 [some (.ref am), some (vI k), some (vI room), some (vI bg'), some (vI b)] [] (mkM am B h0 g1) Q X := by
      intro bg' hbe hbb
      unfold pkF at K
      rw [← hbe] at K
      have L51 : ∀ g2, Sr g g2 → RL g2 (l ++ chs (g 9) b) → V E mX7_packedBy 4 0 51 [some (.ref am), some (vI k), some (vI room), some (vI bg'), some (vI b)] [] (mkM am B h0 g2) Q X := by
        intro g2 hs2 hR2
        have hr_g2 := hs2.2
        have p9 : g2 9 = g 9 := hs2.1 9 (by omega)
        have p93 : g2 9 3 = g 9 3 := by rw [p9]
        have p9e : g2 9 (11 + 33 * b + 1) = g 9 (11 + 33 * b + 1) := by rw [p9]
        have p2 : g2 2 = g 2 := hs2.1 2 (by omega)
        have p20 : g2 2 0 = g 2 0 := by rw [p2]
        by_cases ce : g 9 (11 + 33 * b + 1) ≠ -9 ∨ b = g 9 3 - 1
        · simp only [if_pos ce] at K
          have L81 : V E mX7_packedBy 4 0 81 [some (.ref am), some (vI k), some (vI room), some (vI bg'), some (vI b)] [] (mkM am B h0 g2) Q X := by
            have nx : ∀ g3, Sw g2 g3 → V E mX7_packedBy 4 0 13 [some (.ref am), some (vI k), some (vI (room + prF k (2 + g 2 0) 49 (l ++ chs (g 9) b) bg' 0)), some (vI (-9)), some (vI (b + 1))] [] (mkM am B h0 (gup g3 45 0 0)) Q X := by
              intro g3 hs3
              exact ih (b + 1) (-9) _ [] _ ((hs2.tr hs3.sr).up (by omega) (by decide)) ⟨rfl, trivial⟩ (by omega) (by omega) (by simp; omega) (fun x hx => by cases hx) (Or.inl rfl) K
            refine V_iload_n dX7_packedBy_81 rfl ?_
            refine V_aload_n dX7_packedBy_82 rfl ?_
            refine V_iload_n dX7_packedBy_83 rfl ?_
            refine V_iload_n dX7_packedBy_84 rfl ?_
            refine VM_c2 (M' := mX7_roomParted) okX7_roomParted rfl dX7_packedBy_85 q3038 rfl rfl (Nat.le_of_ble_eq_true rfl) (d' := 3) (b1 := 0) (by decide) (by decide) (c_X7_roomParted hB hr_g2 (l := l ++ chs (g 9) b) hk (by omega) hR2 (by rw [p2]; exact hg2) hbb hx2 (fun g3 hs3 => ?_))
            refine V_iadd dX7_packedBy_88 ?_
            refine V_istore_n dX7_packedBy_89 (by decide) ?_
            refine V_bipush dX7_packedBy_90 (by decide) ?_
            refine V_istore_n dX7_packedBy_92 (by decide) ?_
            refine V_aload_n dX7_packedBy_93 rfl ?_
            refine V_iconst dX7_packedBy_94 ?_
            refine VM_puti 45 dX7_packedBy_95 q2651 (by decide) rfl rfl mfs45 mna45 ?_
            refine V_iinc dX7_packedBy_98 rfl (by decide) ?_
            refine V_goto 13 dX7_packedBy_101 (by decide) ?_
            rw [p20]; exact nx g3 hs3
          refine V_aload_n dX7_packedBy_51 rfl ?_
          refine VM_geta 9 dX7_packedBy_52 q2615 (by decide) rfl ?_
          refine V_iload dX7_packedBy_55 rfl ?_
          refine VS_c1 (M' := mX7_block0) okX7_block0 dX7_packedBy_57 q2603 rfl rfl (Nat.le_of_ble_eq_true rfl) (d' := 1) (b1 := 0) (by decide) (by decide) (c_X7_block0 ?_)
          refine V_iconst dX7_packedBy_60 ?_
          refine V_iadd dX7_packedBy_61 ?_
          refine VM_ialdE 9 (g2 9 ((11 + 33 * b) + 1)) hB dX7_packedBy_62 mar9 rfl (by first | omega | (simp [gup, aup]; omega)) (by show _ < (209 : Int); first | omega | (simp [gup, aup]; omega)) (by decide) rfl ?_
          refine V_bipush dX7_packedBy_63 (by decide) ?_
          refine V_icmp_ne 81 dX7_packedBy_65 (by decide) (by first | omega | exact hr_g2 _ _ | decide) (by first | omega | exact hr_g2 _ _ | decide) (fun c_65 => ?_) (fun c_65 => ?_)
          · exact L81
          · refine V_iload dX7_packedBy_68 rfl ?_
            refine V_aload_n dX7_packedBy_70 rfl ?_
            refine VM_geta 9 dX7_packedBy_71 q2615 (by decide) rfl ?_
            refine V_iconst dX7_packedBy_74 ?_
            refine VM_ialdE 9 (g2 9 3) hB dX7_packedBy_75 mar9 rfl (by first | omega | (simp [gup, aup]; omega)) (by show _ < (209 : Int); first | omega | (simp [gup, aup]; omega)) (by decide) rfl ?_
            refine V_iconst dX7_packedBy_76 ?_
            refine V_isub dX7_packedBy_77 ?_
            refine V_icmp_ne 98 dX7_packedBy_78 (by decide) (by first | omega | exact hr_g2 _ _ | decide) (by first | omega | exact hr_g2 _ _ | decide) (fun c_78 => ?_) (fun c_78 => ?_)
            · exfalso; omega
            · exact L81
        · simp only [if_neg ce] at K
          refine V_aload_n dX7_packedBy_51 rfl ?_
          refine VM_geta 9 dX7_packedBy_52 q2615 (by decide) rfl ?_
          refine V_iload dX7_packedBy_55 rfl ?_
          refine VS_c1 (M' := mX7_block0) okX7_block0 dX7_packedBy_57 q2603 rfl rfl (Nat.le_of_ble_eq_true rfl) (d' := 1) (b1 := 0) (by decide) (by decide) (c_X7_block0 ?_)
          refine V_iconst dX7_packedBy_60 ?_
          refine V_iadd dX7_packedBy_61 ?_
          refine VM_ialdE 9 (g2 9 ((11 + 33 * b) + 1)) hB dX7_packedBy_62 mar9 rfl (by first | omega | (simp [gup, aup]; omega)) (by show _ < (209 : Int); first | omega | (simp [gup, aup]; omega)) (by decide) rfl ?_
          refine V_bipush dX7_packedBy_63 (by decide) ?_
          refine V_icmp_ne 81 dX7_packedBy_65 (by decide) (by first | omega | exact hr_g2 _ _ | decide) (by first | omega | exact hr_g2 _ _ | decide) (fun c_65 => ?_) (fun c_65 => ?_)
          · exfalso; omega
          · refine V_iload dX7_packedBy_68 rfl ?_
            refine V_aload_n dX7_packedBy_70 rfl ?_
            refine VM_geta 9 dX7_packedBy_71 q2615 (by decide) rfl ?_
            refine V_iconst dX7_packedBy_74 ?_
            refine VM_ialdE 9 (g2 9 3) hB dX7_packedBy_75 mar9 rfl (by first | omega | (simp [gup, aup]; omega)) (by show _ < (209 : Int); first | omega | (simp [gup, aup]; omega)) (by decide) rfl ?_
            refine V_iconst dX7_packedBy_76 ?_
            refine V_isub dX7_packedBy_77 ?_
            refine V_icmp_ne 98 dX7_packedBy_78 (by decide) (by first | omega | exact hr_g2 _ _ | decide) (by first | omega | exact hr_g2 _ _ | decide) (fun c_78 => ?_) (fun c_78 => ?_)
            · refine V_iinc dX7_packedBy_98 rfl (by decide) ?_
              refine V_goto 13 dX7_packedBy_101 (by decide) ?_
              exact ih (b + 1) bg' room (l ++ chs (g 9) b) g2 hs2 hR2 (by omega) (by omega) (by omega) hx2 (Or.inr hbb) K
            · exfalso; omega
      refine V_aload_n dX7_packedBy_45 rfl ?_
      refine V_iload dX7_packedBy_46 rfl ?_
      refine VM_v1 (M' := mX7_addsRow) okX7_addsRow rfl dX7_packedBy_48 q3006 rfl rfl (Nat.le_of_ble_eq_true rfl) (d' := 2) (b1 := 0) (by decide) (by decide) (c_X7_addsRow hB hr_g1 (c := c) (l := l) (by rw [f9]; exact hw) (by omega) (by omega) hR (fun g2 hs2 hR2 => ?_))
      rw [f9] at hR2; exact L51 g2 (hs.tr hs2) hR2
    by_cases cb : bg = -9
    · rw [if_pos cb] at L44
      refine V_iload dX7_packedBy_13 rfl ?_
      refine V_aload_n dX7_packedBy_15 rfl ?_
      refine VM_geta 9 dX7_packedBy_16 q2615 (by decide) rfl ?_
      refine V_iconst dX7_packedBy_19 ?_
      refine VM_ialdE 9 (g1 9 3) hB dX7_packedBy_20 mar9 rfl (by first | omega | (simp [gup, aup]; omega)) (by show _ < (209 : Int); first | omega | (simp [gup, aup]; omega)) (by decide) rfl ?_
      refine V_icmp_ge 104 dX7_packedBy_21 (by decide) (by first | omega | exact hr_g1 _ _ | decide) (by first | omega | exact hr_g1 _ _ | decide) (fun c_21 => by exfalso; omega) (fun c_21 => ?_)
      refine V_iload_n dX7_packedBy_24 rfl ?_
      refine V_bipush dX7_packedBy_25 (by decide) ?_
      refine V_icmp_ne 43 dX7_packedBy_27 (by decide) (by first | omega | exact hr_g1 _ _ | decide) (by first | omega | exact hr_g1 _ _ | decide) (fun c_27 => by exfalso; omega) (fun c_27 => ?_)
      refine V_aload_n dX7_packedBy_30 rfl ?_
      refine VM_geta 9 dX7_packedBy_31 q2615 (by decide) rfl ?_
      refine V_iload dX7_packedBy_34 rfl ?_
      refine VS_c1 (M' := mX7_block0) okX7_block0 dX7_packedBy_36 q2603 rfl rfl (Nat.le_of_ble_eq_true rfl) (d' := 1) (b1 := 0) (by decide) (by decide) (c_X7_block0 ?_)
      refine VM_ialdE 9 (g1 9 (11 + 33 * b)) hB dX7_packedBy_39 mar9 rfl (by first | omega | (simp [gup, aup]; omega)) (by show _ < (209 : Int); first | omega | (simp [gup, aup]; omega)) (by decide) rfl ?_
      refine V_goto 44 dX7_packedBy_40 (by decide) ?_
      refine V_istore_n dX7_packedBy_44 (by decide) ?_
      exact L44 _ e9b (by omega)
    · rw [if_neg cb] at L44
      refine V_iload dX7_packedBy_13 rfl ?_
      refine V_aload_n dX7_packedBy_15 rfl ?_
      refine VM_geta 9 dX7_packedBy_16 q2615 (by decide) rfl ?_
      refine V_iconst dX7_packedBy_19 ?_
      refine VM_ialdE 9 (g1 9 3) hB dX7_packedBy_20 mar9 rfl (by first | omega | (simp [gup, aup]; omega)) (by show _ < (209 : Int); first | omega | (simp [gup, aup]; omega)) (by decide) rfl ?_
      refine V_icmp_ge 104 dX7_packedBy_21 (by decide) (by first | omega | exact hr_g1 _ _ | decide) (by first | omega | exact hr_g1 _ _ | decide) (fun c_21 => by exfalso; omega) (fun c_21 => ?_)
      refine V_iload_n dX7_packedBy_24 rfl ?_
      refine V_bipush dX7_packedBy_25 (by decide) ?_
      refine V_icmp_ne 43 dX7_packedBy_27 (by decide) (by first | omega | exact hr_g1 _ _ | decide) (by first | omega | exact hr_g1 _ _ | decide) (fun c_27 => ?_) (fun c_27 => by exfalso; omega)
      refine V_iload_n dX7_packedBy_43 rfl ?_
      refine V_istore_n dX7_packedBy_44 (by decide) ?_
      exact L44 _ rfl (by omega)
theorem c_X7_packedBy (hB : MB am B) (hr_g : Rng g) {k c : Int} (hk : 1 ≤ k ∧ k ≤ 8) (hw : WI c (g 9)) (hg2 : 0 ≤ g 2 0 ∧ g 2 0 ≤ 6) (K : ∀ g', Sr g g' → Q (vI (pkd g k)) (mkM am B h0 g')) : V E mX7_packedBy 4 0 0 [some (.ref am), some (vI k), none, none, none] [] (mkM am B h0 g) Q X := by
  have w3 := hw.2.2.2.1
  refine V_iconst dX7_packedBy_0 ?_
  refine V_istore_n dX7_packedBy_1 (by decide) ?_
  refine V_bipush dX7_packedBy_2 (by decide) ?_
  refine V_istore_n dX7_packedBy_4 (by decide) ?_
  refine V_aload_n dX7_packedBy_5 rfl ?_
  refine V_iconst dX7_packedBy_6 ?_
  refine VM_puti 45 dX7_packedBy_7 q2651 (by decide) rfl rfl mfs45 mna45 ?_
  refine V_iconst dX7_packedBy_10 ?_
  refine V_istore dX7_packedBy_11 (by decide) ?_
  exact c_pk13 hB hk hw hg2 (g 9 3).toNat 0 (-9) 0 [] _ (Sr.up (g := g) ⟨fun _ _ => rfl, hr_g⟩ (by omega) (by decide)) ⟨rfl, trivial⟩ (by omega) (by omega) (by simp) (fun x hx => by cases hx) (Or.inl rfl) K
def aPacked (g : MG) (k : Int) : Int := if 1 ≤ k ∧ k ≤ 8 then pkd g k else -1
theorem c_X7_packed (hB : MB am B) (hr_g : Rng g) {k c : Int} (hki : inr k) (hw : WI c (g 9)) (hg2 : 0 ≤ g 2 0 ∧ g 2 0 ≤ 6) (K : ∀ g', Sm g g' → Q (vI (aPacked g k)) (mkM am B h0 g')) : V E mX7_packed 5 0 0 [some (.ref am), some (vI k)] [] (mkM am B h0 g) Q X := by
  unfold aPacked at K
  have K0 := K g (Sm.rfl' hr_g)
  by_cases cc : 1 ≤ k ∧ k ≤ 8
  · simp only [if_pos cc] at K
    refine V_iload_n dX7_packed_0 rfl ?_
    refine V_iconst dX7_packed_1 ?_
    refine V_bipush dX7_packed_2 (by decide) ?_
    refine VS_c3 (M' := mX7_in) okX7_in dX7_packed_4 q2762 rfl rfl (Nat.le_of_ble_eq_true rfl) (d' := 1) (b1 := 0) (by decide) (by decide) (c_X7_in (by first | omega | exact hr_g _ _ | decide) (by first | omega | exact hr_g _ _ | decide) (by first | omega | exact hr_g _ _ | decide) (fun c_4 => ?_) (fun c_4 => ?_))
    · refine V_if_eq 18 dX7_packed_7 (by decide) (by first | omega | exact hr_g _ _ | decide) (fun c_7 => absurd c_7 (by decide)) (fun c_7 => ?_)
      refine V_aload_n dX7_packed_10 rfl ?_
      refine V_iload_n dX7_packed_11 rfl ?_
      refine VM_c1 (M' := mX7_packedBy) okX7_packedBy rfl dX7_packed_12 q3034 rfl rfl (Nat.le_of_ble_eq_true rfl) (d' := 4) (b1 := 0) (by decide) (by decide) (c_X7_packedBy hB hr_g cc hw hg2 (fun g1 hs => ?_))
      refine V_goto 19 dX7_packed_15 (by decide) ?_
      exact V_iret dX7_packed_19 rfl (by exact K g1 hs.sm)
    · refine V_if_eq 18 dX7_packed_7 (by decide) (by first | omega | exact hr_g _ _ | decide) (fun c_7 => ?_) (fun c_7 => absurd c_7 (by decide))
      exfalso; omega
  · simp only [if_neg cc] at K0
    refine V_iload_n dX7_packed_0 rfl ?_
    refine V_iconst dX7_packed_1 ?_
    refine V_bipush dX7_packed_2 (by decide) ?_
    refine VS_c3 (M' := mX7_in) okX7_in dX7_packed_4 q2762 rfl rfl (Nat.le_of_ble_eq_true rfl) (d' := 1) (b1 := 0) (by decide) (by decide) (c_X7_in (by first | omega | exact hr_g _ _ | decide) (by first | omega | exact hr_g _ _ | decide) (by first | omega | exact hr_g _ _ | decide) (fun c_4 => ?_) (fun c_4 => ?_))
    · refine V_if_eq 18 dX7_packed_7 (by decide) (by first | omega | exact hr_g _ _ | decide) (fun c_7 => absurd c_7 (by decide)) (fun c_7 => ?_)
      exfalso; omega
    · refine V_if_eq 18 dX7_packed_7 (by decide) (by first | omega | exact hr_g _ _ | decide) (fun c_7 => ?_) (fun c_7 => absurd c_7 (by decide))
      refine V_iconst dX7_packed_18 ?_
      exact V_iret dX7_packed_19 rfl (by exact K0)
theorem pkd_in {k c : Int} (hw : WI c (g 9)) (hg2 : 0 ≤ g 2 0 ∧ g 2 0 ≤ 6) : 0 ≤ pkd g k ∧ pkd g k ≤ 88200 := by
  have w3 := hw.2.2.2.1
  have := pkF_in (k := k) (c0 := 2 + g 2 0) hw (by omega) (g 9 3).toNat 0 (-9) [] 0 (by omega) (by omega) (by simp)
  unfold pkd
  omega
def bsN (g : MG) : Nat → Int
  | 0 => 1
  | n + 1 => if pkd g ((n : Int) + 2) < pkd g (bsN g n) then (n : Int) + 2 else bsN g n
theorem bsN_in : ∀ n : Nat, 1 ≤ bsN g n ∧ bsN g n ≤ n + 1 := by
  intro n
  induction n with
  | zero => unfold bsN; omega
  | succ n ih => unfold bsN; split <;> omega
theorem pkd_same {g g' : MG} (hs : Sr g g') {k : Int} : pkd g' k = pkd g k := by
  unfold pkd
  rw [hs.1 9 (by omega), hs.1 2 (by omega)]
theorem c_X7_best (hB : MB am B) (hr_g : Rng g) {c : Int} (hw : WI c (g 9)) (hg2 : 0 ≤ g 2 0 ∧ g 2 0 ≤ 6) (K : ∀ g', Sm g g' → Q (vI (bsN g 7)) (mkM am B h0 g')) : V E mX7_best 5 0 0 [some (.ref am), none, none] [] (mkM am B h0 g) Q X := by
  have L : ∀ (m n : Nat) (g1 : MG), n + m = 7 → Sr g g1 → V E mX7_best 5 0 4 [some (.ref am), some (vI (bsN g n)), some (vI ((n : Int) + 2))] [] (mkM am B h0 g1) Q X := by
    intro m
    induction m with
    | zero =>
      intro n g1 hn hs
      have hr_g1 := hs.2
      have e : n = 7 := by omega
      subst e
      have K := K g1 hs.sm
      refine V_iload_n dX7_best_4 rfl ?_
      refine V_bipush dX7_best_5 (by decide) ?_
      refine V_icmp_ge 35 dX7_best_7 (by decide) (by first | omega | exact hr_g _ _ | decide) (by first | omega | exact hr_g _ _ | decide) (fun c_7 => ?_) (fun c_7 => by exfalso; omega)
      refine V_iload_n dX7_best_35 rfl ?_
      exact V_iret dX7_best_36 rfl (by exact K)
    | succ m ih =>
      intro n g1 hn hs
      have hr_g1 := hs.2
      have f9 : g1 9 = g 9 := hs.1 9 (by omega)
      have f2 : g1 2 = g 2 := hs.1 2 (by omega)
      have ih := fun g2 hs2 => ih (n + 1) g2 (by omega) hs2
      unfold bsN at ih
      have b1 := bsN_in (g := g) n
      have p1 := pkd_in (k := (n : Int) + 2) hw hg2
      have p2 := pkd_in (k := bsN g n) hw hg2
      have e1 : pkd g1 ((n : Int) + 2) = pkd g ((n : Int) + 2) := pkd_same hs
      generalize bsN g n = f at *
      have L15 : ∀ g2, Sr g g2 → V E mX7_best 5 0 15 [some (.ref am), some (vI f), some (vI ((n : Int) + 2))] [vI (pkd g ((n : Int) + 2))] (mkM am B h0 g2) Q X := by
        intro g2 hs2
        have hr_g2 := hs2.2
        have p9 : g2 9 = g 9 := hs2.1 9 (by omega)
        have p2' : g2 2 = g 2 := hs2.1 2 (by omega)
        have e2 : pkd g2 f = pkd g f := pkd_same hs2
        by_cases cl : pkd g ((n : Int) + 2) < pkd g f
        · simp only [if_pos cl] at ih
          refine V_aload_n dX7_best_15 rfl ?_
          refine V_iload_n dX7_best_16 rfl ?_
          refine VM_c1 (M' := mX7_packedBy) okX7_packedBy rfl dX7_best_17 q3034 rfl rfl (Nat.le_of_ble_eq_true rfl) (d' := 4) (b1 := 0) (by decide) (by decide) (c_X7_packedBy hB hr_g2 (c := c) (by omega) (by rw [p9]; exact hw) (by rw [p2']; exact hg2) (fun g3 hs3 => ?_))
          refine V_icmp_ge 27 dX7_best_20 (by decide) (by first | omega | exact hr_g _ _ | decide) (by first | omega | exact hr_g _ _ | decide) (fun c_20 => by exfalso; omega) (fun c_20 => ?_)
          refine V_iload_n dX7_best_23 rfl ?_
          refine V_goto 28 dX7_best_24 (by decide) ?_
          refine V_istore_n dX7_best_28 (by decide) ?_
          refine V_iinc dX7_best_29 rfl (by decide) ?_
          refine V_goto 4 dX7_best_32 (by decide) ?_
          have e3 : (n : Int) + 2 + 1 = ((n + 1 : Nat) : Int) + 2 := (by omega); rw [e3]; exact ih g3 (hs2.tr hs3)
        · simp only [if_neg cl] at ih
          refine V_aload_n dX7_best_15 rfl ?_
          refine V_iload_n dX7_best_16 rfl ?_
          refine VM_c1 (M' := mX7_packedBy) okX7_packedBy rfl dX7_best_17 q3034 rfl rfl (Nat.le_of_ble_eq_true rfl) (d' := 4) (b1 := 0) (by decide) (by decide) (c_X7_packedBy hB hr_g2 (c := c) (by omega) (by rw [p9]; exact hw) (by rw [p2']; exact hg2) (fun g3 hs3 => ?_))
          refine V_icmp_ge 27 dX7_best_20 (by decide) (by first | omega | exact hr_g _ _ | decide) (by first | omega | exact hr_g _ _ | decide) (fun c_20 => ?_) (fun c_20 => by exfalso; omega)
          refine V_iload_n dX7_best_27 rfl ?_
          refine V_istore_n dX7_best_28 (by decide) ?_
          refine V_iinc dX7_best_29 rfl (by decide) ?_
          refine V_goto 4 dX7_best_32 (by decide) ?_
          have e3 : (n : Int) + 2 + 1 = ((n + 1 : Nat) : Int) + 2 := (by omega); rw [e3]; exact ih g3 (hs2.tr hs3)
      refine V_iload_n dX7_best_4 rfl ?_
      refine V_bipush dX7_best_5 (by decide) ?_
      refine V_icmp_ge 35 dX7_best_7 (by decide) (by first | omega | exact hr_g _ _ | decide) (by first | omega | exact hr_g _ _ | decide) (fun c_7 => by exfalso; omega) (fun c_7 => ?_)
      refine V_aload_n dX7_best_10 rfl ?_
      refine V_iload_n dX7_best_11 rfl ?_
      refine VM_c1 (M' := mX7_packedBy) okX7_packedBy rfl dX7_best_12 q3034 rfl rfl (Nat.le_of_ble_eq_true rfl) (d' := 4) (b1 := 0) (by decide) (by decide) (c_X7_packedBy hB hr_g1 (c := c) (by omega) (by rw [f9]; exact hw) (by rw [f2]; exact hg2) (fun g2 hs2 => ?_))
      rw [e1]; exact L15 g2 (hs.tr hs2)
  refine V_iconst dX7_best_0 ?_
  refine V_istore_n dX7_best_1 (by decide) ?_
  refine V_iconst dX7_best_2 ?_
  refine V_istore_n dX7_best_3 (by decide) ?_
  exact L 7 0 g rfl ⟨fun _ _ => rfl, hr_g⟩
end M30
