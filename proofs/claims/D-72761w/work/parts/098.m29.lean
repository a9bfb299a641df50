/-! THE REFERENCE'S METHODS, part 29: counts; what was seen is noted; rows parted otherwise -/
def sumN (f : Int → Int) : Nat → Int
  | 0 => 0
  | n + 1 => sumN f n + f n
def aChgs (g : MG) : Int := sumN (fun b => g 9 (11 + 33 * b + 2)) (g 9 3).toNat
def aRoom (g : MG) : Int := sumN (rmB g) (g 9 3).toNat
def aCount (g : MG) (w : Int) : Int := if w = 0 then g 1 0 else if w = 1 then g 2 0 else if w = 2 then g 6 0 else if w = 3 then g 9 0 else if w = 4 then g 9 1 else if w = 5 then g 9 2 else if w = 6 then g 9 3 else if w = 7 then g 9 4 else if w = 8 then aChgs g else if w = 9 then aRoom g else if w = 10 then g 49 0 else if w = 11 then g 15 0 else if w = 12 then g 11 0 else -1
def aSees (g : MG) (t v : Int) : Int := if (0 ≤ t ∧ t ≤ 999) ∧ ((0 ≤ v ∧ v ≤ 255) ∨ v = -7) then (if g 49 0 = 6 then -3 else g 49 0 + 1) else -1
def pSees (g : MG) (t v : Int) : MG := if ((0 ≤ t ∧ t ≤ 999) ∧ ((0 ≤ v ∧ v ≤ 255) ∨ v = -7)) ∧ g 49 0 ≠ 6 then gup (gup (gup g 48 (2 * g 49 0) t) 48 (2 * g 49 0 + 1) v) 49 0 (g 49 0 + 1) else g
/-- room of a row, parted by k -/
def prF (k c0 : Int) : Nat → List (Int × Int) → Int → Int → Int
  | 0, _, _, room => room
  | n + 1, l, t, room => match l.drop k.toNat with
    | [] => room + rmL (l.take k.toNat) t [] c0
    | x :: r => prF k c0 n (x :: r) x.1 (room + rmL (l.take k.toNat) t [] c0)
def pkF (s : Int → Int) (k c0 : Int) : Nat → Int → Int → List (Int × Int) → Int → Int
  | 0, _, _, _, room => room
  | m + 1, b, bg, l, room => if s (11 + 33 * b + 1) ≠ -9 ∨ b = s 3 - 1 then pkF s k c0 m (b + 1) (-9) [] (room + prF k c0 49 (l ++ chs s b) (if bg = -9 then s (11 + 33 * b) else bg) 0) else pkF s k c0 m (b + 1) (if bg = -9 then s (11 + 33 * b) else bg) (l ++ chs s b) room
def pkd (g : MG) (k : Int) : Int := pkF (g 9) k (2 + g 2 0) (g 9 3).toNat 0 (-9) [] 0
theorem prF_in {k c0 : Int} (hc : 2 ≤ c0 ∧ c0 ≤ 8) : ∀ (n : Nat) (l : List (Int × Int)) (t room : Int), l.length ≤ 48 → room ≤ prF k c0 n l t room ∧ prF k c0 n l t room ≤ room + 300 * (n : Int) := by
  intro n
  induction n with
  | zero => intro l t room _; unfold prF; omega
  | succ n ih =>
    intro l t room hl
    have h1 := rmL_in (l.take k.toNat) t [] c0
    have h2 : (l.take k.toNat).length ≤ l.length := by rw [List.length_take]; omega
    have h3 : (l.drop k.toNat).length ≤ l.length := by rw [List.length_drop]; omega
    rw [List.length_nil] at h1
    unfold prF
    generalize rmL (l.take k.toNat) t [] c0 = z at *
    cases hd : l.drop k.toNat with
    | nil => dsimp only; omega
    | cons x r =>
      rw [hd] at h3
      have h4 := ih (x :: r) x.1 (room + z) (by omega)
      dsimp only
      omega
theorem pkF_in {s : Int → Int} {c k c0 : Int} (hw : WI c s) (hc : 2 ≤ c0 ∧ c0 ≤ 8) : ∀ (m : Nat) (b bg : Int) (l : List (Int × Int)) (room : Int), b + m = s 3 → 0 ≤ b → (l.length : Int) ≤ 8 * b → room ≤ pkF s k c0 m b bg l room ∧ pkF s k c0 m b bg l room ≤ room + 14700 * (m : Int) := by
  have w3 := hw.2.2.2.1
  intro m
  induction m with
  | zero => intro b bg l room _ _ _; unfold pkF; omega
  | succ m ih =>
    intro b bg l room hb h0 hl
    obtain ⟨t1, t2, t3⟩ := chs_t (b := b) hw ⟨h0, by omega⟩
    have hl2 : (l ++ chs s b).length = l.length + (chs s b).length := List.length_append
    unfold pkF
    split
    · have h1 := prF_in (k := k) hc 49 (l ++ chs s b) (if bg = -9 then s (11 + 33 * b) else bg) 0 (by omega)
      have h2 := ih (b + 1) (-9) [] (room + prF k c0 49 (l ++ chs s b) (if bg = -9 then s (11 + 33 * b) else bg) 0) (by omega) (by omega) (by simp; omega)
      omega
    · have h2 := ih (b + 1) (if bg = -9 then s (11 + 33 * b) else bg) (l ++ chs s b) room (by omega) (by omega) (by omega)
      omega
theorem SEG.drop {g : MG} : ∀ (n : Nat) (l : List (Int × Int)) (i : Int), SEG g i l → n ≤ l.length → SEG g (i + n) (l.drop n) := by
  intro n
  induction n with
  | zero => intro l i h _; simpa using h
  | succ n ih =>
    intro l i h hn
    cases l with
    | nil => simp at hn
    | cons x r =>
      rw [List.length_cons] at hn
      have := ih r (i + 1) h.2.2 (by omega)
      rw [show i + ((n + 1 : Nat) : Int) = i + 1 + (n : Int) by omega]
      exact this
theorem SEG.take {g : MG} : ∀ (n : Nat) (l : List (Int × Int)) (i : Int), SEG g i l → SEG g i (l.take n) := by
  intro n
  induction n with
  | zero => intro l i _; rw [List.take_zero]; trivial
  | succ n ih =>
    intro l i h
    cases l with
    | nil => exact h
    | cons x r => exact ⟨h.1, h.2.1, ih r (i + 1) h.2.2⟩
section M29
variable {E : Ev} {am : Nat} {B : Nat → Nat} {h0 h : AH} {g : MG} {Q : Value → AH → Prop} {X : Nat → AH → Prop}
theorem c_X7_changes (hB : MB am B) (hr_g : Rng g) {c : Int} (hw : WI c (g 9)) (K : Q (vI (aChgs g)) (mkM am B h0 g)) : V E mX7_changes 2 0 0 [some (.ref am), none, none] [] (mkM am B h0 g) Q X := by
  have w3 := hw.2.2.2.1
  have L : ∀ (m n : Nat), (n + m : Int) = g 9 3 → V E mX7_changes 2 0 4 [some (.ref am), some (vI (sumN (fun b => g 9 (11 + 33 * b + 2)) n)), some (vI n)] [] (mkM am B h0 g) Q X := by
    intro m
    induction m with
    | zero =>
      intro n hn
      unfold aChgs at K
      rw [show (g 9 3).toNat = n by omega] at K
      refine V_iload_n dX7_changes_4 rfl ?_
      refine V_aload_n dX7_changes_5 rfl ?_
      refine VM_geta 9 dX7_changes_6 q2615 (by decide) rfl ?_
      refine V_iconst dX7_changes_9 ?_
      refine VM_ialdE 9 (g 9 3) hB dX7_changes_10 mar9 rfl (by first | omega | (simp [gup, aup]; omega)) (by show _ < (209 : Int); first | omega | (simp [gup, aup]; omega)) (by decide) rfl ?_
      refine V_icmp_ge 34 dX7_changes_11 (by decide) (by first | omega | exact hr_g _ _ | decide) (by first | omega | exact hr_g _ _ | decide) (fun c_11 => ?_) (fun c_11 => by exfalso; omega)
      refine V_iload_n dX7_changes_34 rfl ?_
      exact V_iret dX7_changes_35 rfl (by exact K)
    | succ m ih =>
      intro n hn
      have ih := ih (n + 1) (by omega)
      unfold sumN at ih
      refine V_iload_n dX7_changes_4 rfl ?_
      refine V_aload_n dX7_changes_5 rfl ?_
      refine VM_geta 9 dX7_changes_6 q2615 (by decide) rfl ?_
      refine V_iconst dX7_changes_9 ?_
      refine VM_ialdE 9 (g 9 3) hB dX7_changes_10 mar9 rfl (by first | omega | (simp [gup, aup]; omega)) (by show _ < (209 : Int); first | omega | (simp [gup, aup]; omega)) (by decide) rfl ?_
      refine V_icmp_ge 34 dX7_changes_11 (by decide) (by first | omega | exact hr_g _ _ | decide) (by first | omega | exact hr_g _ _ | decide) (fun c_11 => by exfalso; omega) (fun c_11 => ?_)
      refine V_iload_n dX7_changes_14 rfl ?_
      refine V_aload_n dX7_changes_15 rfl ?_
      refine VM_geta 9 dX7_changes_16 q2615 (by decide) rfl ?_
      refine V_iload_n dX7_changes_19 rfl ?_
      refine VS_c1 (M' := mX7_block0) okX7_block0 dX7_changes_20 q2603 rfl rfl (Nat.le_of_ble_eq_true rfl) (d' := 1) (b1 := 0) (by decide) (by decide) (c_X7_block0 ?_)
      refine V_iconst dX7_changes_23 ?_
      refine V_iadd dX7_changes_24 ?_
      refine VM_ialdE 9 (g 9 ((11 + 33 * ((n : Int))) + 2)) hB dX7_changes_25 mar9 rfl (by first | omega | (simp [gup, aup]; omega)) (by show _ < (209 : Int); first | omega | (simp [gup, aup]; omega)) (by decide) rfl ?_
      refine V_iadd dX7_changes_26 ?_
      refine V_istore_n dX7_changes_27 (by decide) ?_
      refine V_iinc dX7_changes_28 rfl (by decide) ?_
      refine V_goto 4 dX7_changes_31 (by decide) ?_
      exact ih
  refine V_iconst dX7_changes_0 ?_
  refine V_istore_n dX7_changes_1 (by decide) ?_
  refine V_iconst dX7_changes_2 ?_
  refine V_istore_n dX7_changes_3 (by decide) ?_
  exact L (g 9 3).toNat 0 (by omega)
theorem c_X7_roomOfAll (hB : MB am B) (hr_g : Rng g) {c : Int} (hw : WI c (g 9)) (hg2 : 0 ≤ g 2 0 ∧ g 2 0 ≤ 6) (K : ∀ g', Sm g g' → Q (vI (aRoom g)) (mkM am B h0 g')) : V E mX7_roomOfAll 4 0 0 [some (.ref am), none, none] [] (mkM am B h0 g) Q X := by
  have w3 := hw.2.2.2.1
  have L : ∀ (m n : Nat) (g1 : MG), Sr g g1 → (n + m : Int) = g 9 3 → V E mX7_roomOfAll 4 0 4 [some (.ref am), some (vI (sumN (rmB g) n)), some (vI n)] [] (mkM am B h0 g1) Q X := by
    intro m
    induction m with
    | zero =>
      intro n g1 hs hn
      have hr_g1 := hs.2
      have e9 : g1 9 3 = g 9 3 := by rw [hs.1 9 (by omega)]
      have K := K g1 hs.sm
      unfold aRoom at K
      rw [show (g 9 3).toNat = n by omega] at K
      refine V_iload_n dX7_roomOfAll_4 rfl ?_
      refine V_aload_n dX7_roomOfAll_5 rfl ?_
      refine VM_geta 9 dX7_roomOfAll_6 q2615 (by decide) rfl ?_
      refine V_iconst dX7_roomOfAll_9 ?_
      refine VM_ialdE 9 (g1 9 3) hB dX7_roomOfAll_10 mar9 rfl (by first | omega | (simp [gup, aup]; omega)) (by show _ < (209 : Int); first | omega | (simp [gup, aup]; omega)) (by decide) rfl ?_
      refine V_icmp_ge 28 dX7_roomOfAll_11 (by decide) (by first | omega | exact hr_g1 _ _ | decide) (by first | omega | exact hr_g1 _ _ | decide) (fun c_11 => ?_) (fun c_11 => by exfalso; omega)
      refine V_iload_n dX7_roomOfAll_28 rfl ?_
      exact V_iret dX7_roomOfAll_29 rfl (by exact K)
    | succ m ih =>
      intro n g1 hs hn
      have hr_g1 := hs.2
      have f9 : g1 9 = g 9 := hs.1 9 (by omega)
      have e9 : g1 9 3 = g 9 3 := by rw [f9]
      have f2 : g1 2 = g 2 := hs.1 2 (by omega)
      have er : rmB g1 n = rmB g n := by unfold rmB; rw [f9, f2]
      refine V_iload_n dX7_roomOfAll_4 rfl ?_
      refine V_aload_n dX7_roomOfAll_5 rfl ?_
      refine VM_geta 9 dX7_roomOfAll_6 q2615 (by decide) rfl ?_
      refine V_iconst dX7_roomOfAll_9 ?_
      refine VM_ialdE 9 (g1 9 3) hB dX7_roomOfAll_10 mar9 rfl (by first | omega | (simp [gup, aup]; omega)) (by show _ < (209 : Int); first | omega | (simp [gup, aup]; omega)) (by decide) rfl ?_
      refine V_icmp_ge 28 dX7_roomOfAll_11 (by decide) (by first | omega | exact hr_g1 _ _ | decide) (by first | omega | exact hr_g1 _ _ | decide) (fun c_11 => by exfalso; omega) (fun c_11 => ?_)
      refine V_iload_n dX7_roomOfAll_14 rfl ?_
      refine V_aload_n dX7_roomOfAll_15 rfl ?_
      refine V_iload_n dX7_roomOfAll_16 rfl ?_
      refine VM_c1 (M' := mX7_roomOfBlock) okX7_roomOfBlock rfl dX7_roomOfAll_17 q3002 rfl rfl (Nat.le_of_ble_eq_true rfl) (d' := 3) (b1 := 0) (by decide) (by decide) (c_X7_roomOfBlock hB hr_g1 (c := c) (by rw [f9]; exact hw) (by rw [f2]; exact hg2) (by omega) (fun g2 hs2 _ _ _ => ?_))
      refine V_iadd dX7_roomOfAll_20 ?_
      refine V_istore_n dX7_roomOfAll_21 (by decide) ?_
      refine V_iinc dX7_roomOfAll_22 rfl (by decide) ?_
      refine V_goto 4 dX7_roomOfAll_25 (by decide) ?_
      rw [er]; exact ih (n + 1) g2 (hs.tr hs2) (by omega)
  refine V_iconst dX7_roomOfAll_0 ?_
  refine V_istore_n dX7_roomOfAll_1 (by decide) ?_
  refine V_iconst dX7_roomOfAll_2 ?_
  refine V_istore_n dX7_roomOfAll_3 (by decide) ?_
  exact L (g 9 3).toNat 0 g ⟨fun _ _ => rfl, hr_g⟩ (by omega)
theorem c_X7_count (hB : MB am B) (hr_g : Rng g) {w c : Int} (hwi : inr w) (hb : BI g) (hw : WI c (g 9)) (K : ∀ g', Sm g g' → Q (vI (aCount g w)) (mkM am B h0 g')) : V E mX7_count 5 0 0 [some (.ref am), some (vI w)] [] (mkM am B h0 g) Q X := by
  have hb2 := hb.2.1
  have K0 := K g (Sm.rfl' hr_g)
  unfold aCount at K K0
  refine V_iload_n dX7_count_0 rfl ?_
  rcases (show w = 0 ∨ w = 1 ∨ w = 2 ∨ w = 3 ∨ w = 4 ∨ w = 5 ∨ w = 6 ∨ w = 7 ∨ w = 8 ∨ w = 9 ∨ w = 10 ∨ w = 11 ∨ w = 12 ∨ (w < 0 ∨ 12 < w) by omega) with rfl | rfl | rfl | rfl | rfl | rfl | rfl | rfl | rfl | rfl | rfl | rfl | rfl | hsw
  · refine V_tableIn 68 dX7_count_1 (by decide) (by decide) (by decide) rfl (by decide) ?_
    refine V_aload_n dX7_count_68 rfl ?_
    refine VM_getiE 1 (g 1 0) dX7_count_69 q2607 (by decide) rfl rfl ?_
    exact V_iret dX7_count_72 rfl (by exact K0)
  · refine V_tableIn 73 dX7_count_1 (by decide) (by decide) (by decide) rfl (by decide) ?_
    refine V_aload_n dX7_count_73 rfl ?_
    refine VM_getiE 2 (g 2 0) dX7_count_74 q2608 (by decide) rfl rfl ?_
    exact V_iret dX7_count_77 rfl (by exact K0)
  · refine V_tableIn 78 dX7_count_1 (by decide) (by decide) (by decide) rfl (by decide) ?_
    refine V_aload_n dX7_count_78 rfl ?_
    refine VM_getiE 6 (g 6 0) dX7_count_79 q2612 (by decide) rfl rfl ?_
    exact V_iret dX7_count_82 rfl (by exact K0)
  · refine V_tableIn 83 dX7_count_1 (by decide) (by decide) (by decide) rfl (by decide) ?_
    refine V_aload_n dX7_count_83 rfl ?_
    refine VM_geta 9 dX7_count_84 q2615 (by decide) rfl ?_
    refine V_iconst dX7_count_87 ?_
    refine VM_ialdE 9 (g 9 0) hB dX7_count_88 mar9 rfl (by first | omega | (simp [gup, aup]; omega)) (by show _ < (209 : Int); first | omega | (simp [gup, aup]; omega)) (by decide) rfl ?_
    exact V_iret dX7_count_89 rfl (by exact K0)
  · refine V_tableIn 90 dX7_count_1 (by decide) (by decide) (by decide) rfl (by decide) ?_
    refine V_aload_n dX7_count_90 rfl ?_
    refine VM_geta 9 dX7_count_91 q2615 (by decide) rfl ?_
    refine V_iconst dX7_count_94 ?_
    refine VM_ialdE 9 (g 9 1) hB dX7_count_95 mar9 rfl (by first | omega | (simp [gup, aup]; omega)) (by show _ < (209 : Int); first | omega | (simp [gup, aup]; omega)) (by decide) rfl ?_
    exact V_iret dX7_count_96 rfl (by exact K0)
  · refine V_tableIn 97 dX7_count_1 (by decide) (by decide) (by decide) rfl (by decide) ?_
    refine V_aload_n dX7_count_97 rfl ?_
    refine VM_geta 9 dX7_count_98 q2615 (by decide) rfl ?_
    refine V_iconst dX7_count_101 ?_
    refine VM_ialdE 9 (g 9 2) hB dX7_count_102 mar9 rfl (by first | omega | (simp [gup, aup]; omega)) (by show _ < (209 : Int); first | omega | (simp [gup, aup]; omega)) (by decide) rfl ?_
    exact V_iret dX7_count_103 rfl (by exact K0)
  · refine V_tableIn 104 dX7_count_1 (by decide) (by decide) (by decide) rfl (by decide) ?_
    refine V_aload_n dX7_count_104 rfl ?_
    refine VM_geta 9 dX7_count_105 q2615 (by decide) rfl ?_
    refine V_iconst dX7_count_108 ?_
    refine VM_ialdE 9 (g 9 3) hB dX7_count_109 mar9 rfl (by first | omega | (simp [gup, aup]; omega)) (by show _ < (209 : Int); first | omega | (simp [gup, aup]; omega)) (by decide) rfl ?_
    exact V_iret dX7_count_110 rfl (by exact K0)
  · refine V_tableIn 111 dX7_count_1 (by decide) (by decide) (by decide) rfl (by decide) ?_
    refine V_aload_n dX7_count_111 rfl ?_
    refine VM_geta 9 dX7_count_112 q2615 (by decide) rfl ?_
    refine V_iconst dX7_count_115 ?_
    refine VM_ialdE 9 (g 9 4) hB dX7_count_116 mar9 rfl (by first | omega | (simp [gup, aup]; omega)) (by show _ < (209 : Int); first | omega | (simp [gup, aup]; omega)) (by decide) rfl ?_
    exact V_iret dX7_count_117 rfl (by exact K0)
  · refine V_tableIn 118 dX7_count_1 (by decide) (by decide) (by decide) rfl (by decide) ?_
    refine V_aload_n dX7_count_118 rfl ?_
    refine VM_c0 (M' := mX7_changes) okX7_changes rfl dX7_count_119 q3082 rfl rfl (Nat.le_of_ble_eq_true rfl) (d' := 2) (b1 := 0) (by decide) (by decide) (c_X7_changes hB hr_g hw ?_)
    exact V_iret dX7_count_122 rfl (by exact K0)
  · refine V_tableIn 123 dX7_count_1 (by decide) (by decide) (by decide) rfl (by decide) ?_
    refine V_aload_n dX7_count_123 rfl ?_
    refine VM_c0 (M' := mX7_roomOfAll) okX7_roomOfAll rfl dX7_count_124 q3086 rfl rfl (Nat.le_of_ble_eq_true rfl) (d' := 4) (b1 := 0) (by decide) (by decide) (c_X7_roomOfAll hB hr_g hw hb2 (fun g1 hs => ?_))
    exact V_iret dX7_count_127 rfl (by exact K g1 hs)
  · refine V_tableIn 128 dX7_count_1 (by decide) (by decide) (by decide) rfl (by decide) ?_
    refine V_aload_n dX7_count_128 rfl ?_
    refine VM_getiE 49 (g 49 0) dX7_count_129 q2655 (by decide) rfl rfl ?_
    exact V_iret dX7_count_132 rfl (by exact K0)
  · refine V_tableIn 133 dX7_count_1 (by decide) (by decide) (by decide) rfl (by decide) ?_
    refine V_aload_n dX7_count_133 rfl ?_
    refine VM_getiE 15 (g 15 0) dX7_count_134 q2621 (by decide) rfl rfl ?_
    exact V_iret dX7_count_137 rfl (by exact K0)
  · refine V_tableIn 138 dX7_count_1 (by decide) (by decide) (by decide) rfl (by decide) ?_
    refine V_aload_n dX7_count_138 rfl ?_
    refine VM_getiE 11 (g 11 0) dX7_count_139 q2617 (by decide) rfl rfl ?_
    exact V_iret dX7_count_142 rfl (by exact K0)
  · refine V_tableOut 143 dX7_count_1 (by first | omega | exact hr_g _ _ | decide) hsw (by decide) ?_
    refine V_iconst dX7_count_143 ?_
    exact V_iret dX7_count_144 rfl (by simp only [if_neg (show ¬ w = 0 by omega), if_neg (show ¬ w = 1 by omega), if_neg (show ¬ w = 2 by omega), if_neg (show ¬ w = 3 by omega), if_neg (show ¬ w = 4 by omega), if_neg (show ¬ w = 5 by omega), if_neg (show ¬ w = 6 by omega), if_neg (show ¬ w = 7 by omega), if_neg (show ¬ w = 8 by omega), if_neg (show ¬ w = 9 by omega), if_neg (show ¬ w = 10 by omega), if_neg (show ¬ w = 11 by omega), if_neg (show ¬ w = 12 by omega)] at K0; exact K0)
theorem c_X7_sees (hB : MB am B) (hr_g : Rng g) {t v : Int} (ht : inr t) (hv : inr v) (h49 : 0 ≤ g 49 0 ∧ g 49 0 ≤ 6) (K : Q (vI (aSees g t v)) (mkM am B h0 (pSees g t v))) : V E mX7_sees 2 0 0 [some (.ref am), some (vI t), some (vI v)] [] (mkM am B h0 g) Q X := by
  unfold aSees pSees at K
  by_cases cc : (0 ≤ t ∧ t ≤ 999) ∧ ((0 ≤ v ∧ v ≤ 255) ∨ v = -7)
  · rw [if_pos cc] at K
    by_cases c6 : g 49 0 = 6
    · rw [if_pos c6, if_neg (fun z => z.2 c6)] at K
      refine V_iload_n dX7_sees_0 rfl ?_
      refine V_iconst dX7_sees_1 ?_
      refine V_sipush dX7_sees_2 (by decide) ?_
      refine VS_c3 (M' := mX7_in) okX7_in dX7_sees_5 q2762 rfl rfl (Nat.le_of_ble_eq_true rfl) (d' := 1) (b1 := 0) (by decide) (by decide) (c_X7_in (by first | omega | exact hr_g _ _ | decide) (by first | omega | exact hr_g _ _ | decide) (by first | omega | exact hr_g _ _ | decide) (fun c_5 => ?_) (fun c_5 => ?_))
      · refine V_if_eq 28 dX7_sees_8 (by decide) (by first | omega | exact hr_g _ _ | decide) (fun c_8 => absurd c_8 (by decide)) (fun c_8 => ?_)
        refine V_iload_n dX7_sees_11 rfl ?_
        refine V_iconst dX7_sees_12 ?_
        refine V_sipush dX7_sees_13 (by decide) ?_
        refine VS_c3 (M' := mX7_in) okX7_in dX7_sees_16 q2762 rfl rfl (Nat.le_of_ble_eq_true rfl) (d' := 1) (b1 := 0) (by decide) (by decide) (c_X7_in (by first | omega | exact hr_g _ _ | decide) (by first | omega | exact hr_g _ _ | decide) (by first | omega | exact hr_g _ _ | decide) (fun c_16 => ?_) (fun c_16 => ?_))
        · refine V_if_ne 30 dX7_sees_19 (by decide) (by first | omega | exact hr_g _ _ | decide) (fun c_19 => ?_) (fun c_19 => absurd c_19 (by decide))
          refine V_aload_n dX7_sees_30 rfl ?_
          refine VM_getiE 49 (g 49 0) dX7_sees_31 q2655 (by decide) rfl rfl ?_
          refine V_bipush dX7_sees_34 (by decide) ?_
          refine V_icmp_ne 42 dX7_sees_36 (by decide) (by first | omega | exact hr_g _ _ | decide) (by first | omega | exact hr_g _ _ | decide) (fun c_36 => by exfalso; omega) (fun c_36 => ?_)
          refine V_bipush dX7_sees_39 (by decide) ?_
          exact V_iret dX7_sees_41 rfl (by exact K)
        · refine V_if_ne 30 dX7_sees_19 (by decide) (by first | omega | exact hr_g _ _ | decide) (fun c_19 => absurd c_19 (by decide)) (fun c_19 => ?_)
          refine V_iload_n dX7_sees_22 rfl ?_
          refine V_bipush dX7_sees_23 (by decide) ?_
          refine V_icmp_eq 30 dX7_sees_25 (by decide) (by first | omega | exact hr_g _ _ | decide) (by first | omega | exact hr_g _ _ | decide) (fun c_25 => ?_) (fun c_25 => ?_)
          · refine V_aload_n dX7_sees_30 rfl ?_
            refine VM_getiE 49 (g 49 0) dX7_sees_31 q2655 (by decide) rfl rfl ?_
            refine V_bipush dX7_sees_34 (by decide) ?_
            refine V_icmp_ne 42 dX7_sees_36 (by decide) (by first | omega | exact hr_g _ _ | decide) (by first | omega | exact hr_g _ _ | decide) (fun c_36 => by exfalso; omega) (fun c_36 => ?_)
            refine V_bipush dX7_sees_39 (by decide) ?_
            exact V_iret dX7_sees_41 rfl (by exact K)
          · exfalso; omega
      · refine V_if_eq 28 dX7_sees_8 (by decide) (by first | omega | exact hr_g _ _ | decide) (fun c_8 => ?_) (fun c_8 => absurd c_8 (by decide))
        exfalso; omega
    · rw [if_neg c6, if_pos ⟨cc, c6⟩] at K
      refine V_iload_n dX7_sees_0 rfl ?_
      refine V_iconst dX7_sees_1 ?_
      refine V_sipush dX7_sees_2 (by decide) ?_
      refine VS_c3 (M' := mX7_in) okX7_in dX7_sees_5 q2762 rfl rfl (Nat.le_of_ble_eq_true rfl) (d' := 1) (b1 := 0) (by decide) (by decide) (c_X7_in (by first | omega | exact hr_g _ _ | decide) (by first | omega | exact hr_g _ _ | decide) (by first | omega | exact hr_g _ _ | decide) (fun c_5 => ?_) (fun c_5 => ?_))
      · refine V_if_eq 28 dX7_sees_8 (by decide) (by first | omega | exact hr_g _ _ | decide) (fun c_8 => absurd c_8 (by decide)) (fun c_8 => ?_)
        refine V_iload_n dX7_sees_11 rfl ?_
        refine V_iconst dX7_sees_12 ?_
        refine V_sipush dX7_sees_13 (by decide) ?_
        refine VS_c3 (M' := mX7_in) okX7_in dX7_sees_16 q2762 rfl rfl (Nat.le_of_ble_eq_true rfl) (d' := 1) (b1 := 0) (by decide) (by decide) (c_X7_in (by first | omega | exact hr_g _ _ | decide) (by first | omega | exact hr_g _ _ | decide) (by first | omega | exact hr_g _ _ | decide) (fun c_16 => ?_) (fun c_16 => ?_))
        · refine V_if_ne 30 dX7_sees_19 (by decide) (by first | omega | exact hr_g _ _ | decide) (fun c_19 => ?_) (fun c_19 => absurd c_19 (by decide))
          refine V_aload_n dX7_sees_30 rfl ?_
          refine VM_getiE 49 (g 49 0) dX7_sees_31 q2655 (by decide) rfl rfl ?_
          refine V_bipush dX7_sees_34 (by decide) ?_
          refine V_icmp_ne 42 dX7_sees_36 (by decide) (by first | omega | exact hr_g _ _ | decide) (by first | omega | exact hr_g _ _ | decide) (fun c_36 => ?_) (fun c_36 => by exfalso; omega)
          refine V_aload_n dX7_sees_42 rfl ?_
          refine VM_geta 48 dX7_sees_43 q2654 (by decide) rfl ?_
          refine V_iconst dX7_sees_46 ?_
          refine V_aload_n dX7_sees_47 rfl ?_
          refine VM_getiE 49 (g 49 0) dX7_sees_48 q2655 (by decide) rfl rfl ?_
          refine V_imul dX7_sees_51 ?_
          refine V_iload_n dX7_sees_52 rfl ?_
          refine VM_iast 48 hB dX7_sees_53 mar48 rfl mfa48 (by first | omega | (simp [gup, aup]; omega)) (by show _ < (12 : Int); first | omega | (simp [gup, aup]; omega)) (by decide) ?_
          refine V_aload_n dX7_sees_54 rfl ?_
          refine VM_geta 48 dX7_sees_55 q2654 (by decide) rfl ?_
          refine V_iconst dX7_sees_58 ?_
          refine V_aload_n dX7_sees_59 rfl ?_
          refine VM_getiE 49 (g 49 0) dX7_sees_60 q2655 (by decide) rfl rfl ?_
          refine V_imul dX7_sees_63 ?_
          refine V_iconst dX7_sees_64 ?_
          refine V_iadd dX7_sees_65 ?_
          refine V_iload_n dX7_sees_66 rfl ?_
          refine VM_iast 48 hB dX7_sees_67 mar48 rfl mfa48 (by first | omega | (simp [gup, aup]; omega)) (by show _ < (12 : Int); first | omega | (simp [gup, aup]; omega)) (by decide) ?_
          refine V_aload_n dX7_sees_68 rfl ?_
          refine V_dup dX7_sees_69 rfl ?_
          refine VM_getiE 49 (g 49 0) dX7_sees_70 q2655 (by decide) rfl rfl ?_
          refine V_iconst dX7_sees_73 ?_
          refine V_iadd dX7_sees_74 ?_
          refine VM_puti 49 dX7_sees_75 q2655 (by decide) rfl rfl mfs49 mna49 ?_
          refine V_aload_n dX7_sees_78 rfl ?_
          refine VM_getiE 49 ((g 49 0) + 1) dX7_sees_79 q2655 (by decide) rfl rfl ?_
          exact V_iret dX7_sees_82 rfl (by exact K)
        · refine V_if_ne 30 dX7_sees_19 (by decide) (by first | omega | exact hr_g _ _ | decide) (fun c_19 => absurd c_19 (by decide)) (fun c_19 => ?_)
          refine V_iload_n dX7_sees_22 rfl ?_
          refine V_bipush dX7_sees_23 (by decide) ?_
          refine V_icmp_eq 30 dX7_sees_25 (by decide) (by first | omega | exact hr_g _ _ | decide) (by first | omega | exact hr_g _ _ | decide) (fun c_25 => ?_) (fun c_25 => ?_)
          · refine V_aload_n dX7_sees_30 rfl ?_
            refine VM_getiE 49 (g 49 0) dX7_sees_31 q2655 (by decide) rfl rfl ?_
            refine V_bipush dX7_sees_34 (by decide) ?_
            refine V_icmp_ne 42 dX7_sees_36 (by decide) (by first | omega | exact hr_g _ _ | decide) (by first | omega | exact hr_g _ _ | decide) (fun c_36 => ?_) (fun c_36 => by exfalso; omega)
            refine V_aload_n dX7_sees_42 rfl ?_
            refine VM_geta 48 dX7_sees_43 q2654 (by decide) rfl ?_
            refine V_iconst dX7_sees_46 ?_
            refine V_aload_n dX7_sees_47 rfl ?_
            refine VM_getiE 49 (g 49 0) dX7_sees_48 q2655 (by decide) rfl rfl ?_
            refine V_imul dX7_sees_51 ?_
            refine V_iload_n dX7_sees_52 rfl ?_
            refine VM_iast 48 hB dX7_sees_53 mar48 rfl mfa48 (by first | omega | (simp [gup, aup]; omega)) (by show _ < (12 : Int); first | omega | (simp [gup, aup]; omega)) (by decide) ?_
            refine V_aload_n dX7_sees_54 rfl ?_
            refine VM_geta 48 dX7_sees_55 q2654 (by decide) rfl ?_
            refine V_iconst dX7_sees_58 ?_
            refine V_aload_n dX7_sees_59 rfl ?_
            refine VM_getiE 49 (g 49 0) dX7_sees_60 q2655 (by decide) rfl rfl ?_
            refine V_imul dX7_sees_63 ?_
            refine V_iconst dX7_sees_64 ?_
            refine V_iadd dX7_sees_65 ?_
            refine V_iload_n dX7_sees_66 rfl ?_
            refine VM_iast 48 hB dX7_sees_67 mar48 rfl mfa48 (by first | omega | (simp [gup, aup]; omega)) (by show _ < (12 : Int); first | omega | (simp [gup, aup]; omega)) (by decide) ?_
            refine V_aload_n dX7_sees_68 rfl ?_
            refine V_dup dX7_sees_69 rfl ?_
            refine VM_getiE 49 (g 49 0) dX7_sees_70 q2655 (by decide) rfl rfl ?_
            refine V_iconst dX7_sees_73 ?_
            refine V_iadd dX7_sees_74 ?_
            refine VM_puti 49 dX7_sees_75 q2655 (by decide) rfl rfl mfs49 mna49 ?_
            refine V_aload_n dX7_sees_78 rfl ?_
            refine VM_getiE 49 ((g 49 0) + 1) dX7_sees_79 q2655 (by decide) rfl rfl ?_
            exact V_iret dX7_sees_82 rfl (by exact K)
          · exfalso; omega
      · refine V_if_eq 28 dX7_sees_8 (by decide) (by first | omega | exact hr_g _ _ | decide) (fun c_8 => ?_) (fun c_8 => absurd c_8 (by decide))
        exfalso; omega
  · rw [if_neg cc, if_neg (fun z => cc z.1)] at K
    refine V_iload_n dX7_sees_0 rfl ?_
    refine V_iconst dX7_sees_1 ?_
    refine V_sipush dX7_sees_2 (by decide) ?_
    refine VS_c3 (M' := mX7_in) okX7_in dX7_sees_5 q2762 rfl rfl (Nat.le_of_ble_eq_true rfl) (d' := 1) (b1 := 0) (by decide) (by decide) (c_X7_in (by first | omega | exact hr_g _ _ | decide) (by first | omega | exact hr_g _ _ | decide) (by first | omega | exact hr_g _ _ | decide) (fun c_5 => ?_) (fun c_5 => ?_))
    · refine V_if_eq 28 dX7_sees_8 (by decide) (by first | omega | exact hr_g _ _ | decide) (fun c_8 => absurd c_8 (by decide)) (fun c_8 => ?_)
      refine V_iload_n dX7_sees_11 rfl ?_
      refine V_iconst dX7_sees_12 ?_
      refine V_sipush dX7_sees_13 (by decide) ?_
      refine VS_c3 (M' := mX7_in) okX7_in dX7_sees_16 q2762 rfl rfl (Nat.le_of_ble_eq_true rfl) (d' := 1) (b1 := 0) (by decide) (by decide) (c_X7_in (by first | omega | exact hr_g _ _ | decide) (by first | omega | exact hr_g _ _ | decide) (by first | omega | exact hr_g _ _ | decide) (fun c_16 => ?_) (fun c_16 => ?_))
      · refine V_if_ne 30 dX7_sees_19 (by decide) (by first | omega | exact hr_g _ _ | decide) (fun c_19 => ?_) (fun c_19 => absurd c_19 (by decide))
        exfalso; omega
      · refine V_if_ne 30 dX7_sees_19 (by decide) (by first | omega | exact hr_g _ _ | decide) (fun c_19 => absurd c_19 (by decide)) (fun c_19 => ?_)
        refine V_iload_n dX7_sees_22 rfl ?_
        refine V_bipush dX7_sees_23 (by decide) ?_
        refine V_icmp_eq 30 dX7_sees_25 (by decide) (by first | omega | exact hr_g _ _ | decide) (by first | omega | exact hr_g _ _ | decide) (fun c_25 => ?_) (fun c_25 => ?_)
        · exfalso; omega
        · refine V_iconst dX7_sees_28 ?_
          exact V_iret dX7_sees_29 rfl (by exact K)
    · refine V_if_eq 28 dX7_sees_8 (by decide) (by first | omega | exact hr_g _ _ | decide) (fun c_8 => ?_) (fun c_8 => absurd c_8 (by decide))
      refine V_iconst dX7_sees_28 ?_
      exact V_iret dX7_sees_29 rfl (by exact K)
theorem c_X7_forget (hB : MB am B) (hr_g : Rng g) (K : Q (vI (g 49 0)) (mkM am B h0 (gup g 49 0 0))) : V E mX7_forget 1 0 0 [some (.ref am), none] [] (mkM am B h0 g) Q X := by
  refine V_aload_n dX7_forget_0 rfl ?_
  refine VM_getiE 49 (g 49 0) dX7_forget_1 q2655 (by decide) rfl rfl ?_
  refine V_istore_n dX7_forget_4 (by decide) ?_
  refine V_aload_n dX7_forget_5 rfl ?_
  refine V_iconst dX7_forget_6 ?_
  refine VM_puti 49 dX7_forget_7 q2655 (by decide) rfl rfl mfs49 mna49 ?_
  refine V_iload_n dX7_forget_10 rfl ?_
  exact V_iret dX7_forget_11 rfl (by exact K)
theorem c_X7_roomParted (hB : MB am B) (hr_g : Rng g) {l : List (Int × Int)} {k t : Int} (hk : 1 ≤ k ∧ k ≤ 8) (hl : l.length ≤ 48) (hR : RL g l) (hg2 : 0 ≤ g 2 0 ∧ g 2 0 ≤ 6) (ht : 0 ≤ t ∧ t ≤ 999) (hlt : ∀ x ∈ l, 0 ≤ x.1 ∧ x.1 ≤ 999) (K : ∀ g', Sw g g' → Q (vI (prF k (2 + g 2 0) 49 l t 0)) (mkM am B h0 g')) : V E mX7_roomParted 3 0 0 [some (.ref am), some (vI k), some (vI t), none, none, none] [] (mkM am B h0 g) Q X := by
  have hR0 := hR.1
  have L : ∀ (n : Nat) (r : List (Int × Int)) (i time room : Int) (g1 : MG) (v5 : Option Value), Sw g g1 → 0 ≤ i → i + r.length = l.length → (i = 0 ∨ 1 ≤ r.length) → r.length + 1 ≤ n → SEG g i r → (∀ x ∈ r, 0 ≤ x.1 ∧ x.1 ≤ 999) → (0 ≤ time ∧ time ≤ 999) → (if i = 0 then time = t else g 43 i = time) → (∀ g', Sw g g' → Q (vI (prF k (2 + g 2 0) n r time room)) (mkM am B h0 g')) → V E mX7_roomParted 3 0 5 [some (.ref am), some (vI k), some (vI t), some (vI room), some (vI i), v5] [] (mkM am B h0 g1) Q X := by
    intro n
    induction n with
    | zero => intro r i time room g1 v5 _ _ _ _ h; omega
    | succ n ih =>
      intro r i time room g1 v5 hs h1 h2 h3 h4 hS hx htm hti K
      have hr_g1 := hs.2
      have e45 : g1 45 0 = l.length := by rw [hs.1 45 (by omega) (by omega)]; exact hR0
      have e43 : g1 43 = g 43 := hs.1 43 (by omega) (by omega)
      have e43i : g1 43 i = g 43 i := by rw [e43]
      have e2 : g1 2 0 = g 2 0 := by rw [hs.1 2 (by omega) (by omega)]
      have hS1 : SEG g1 i r := hS.same e43 (hs.1 44 (by omega) (by omega)) r i
      unfold prF at K
      have hex : ∀ (z : Int) (g2 : MG) (v5 : Option Value), Sw g g2 → r.drop k.toNat = [] → Q (vI z) (mkM am B h0 g2) → V E mX7_roomParted 3 0 5 [some (.ref am), some (vI k), some (vI t), some (vI z), some (vI (i + k)), v5] [] (mkM am B h0 g2) Q X := by
        intro z g2 v5 hs2 hd hQ
        have hr_g2 := hs2.2
        have f45 : g2 45 0 = l.length := by rw [hs2.1 45 (by omega) (by omega)]; exact hR0
        have hd2 : (r.drop k.toNat).length = r.length - k.toNat := List.length_drop
        rw [hd, List.length_nil] at hd2
        refine V_iload dX7_roomParted_5 rfl ?_
        refine V_aload_n dX7_roomParted_7 rfl ?_
        refine VM_getiE 45 (g2 45 0) dX7_roomParted_8 q2651 (by decide) rfl rfl ?_
        refine V_icmp_lt 19 dX7_roomParted_11 (by decide) (by first | omega | exact hr_g _ _ | decide) (by first | omega | exact hr_g _ _ | decide) (fun c_11 => by exfalso; omega) (fun c_11 => ?_)
        refine V_iload dX7_roomParted_14 rfl ?_
        refine V_if_ne 79 dX7_roomParted_16 (by decide) (by first | omega | exact hr_g _ _ | decide) (fun c_16 => ?_) (fun c_16 => by exfalso; omega)
        refine V_iload_n dX7_roomParted_79 rfl ?_
        exact V_iret dX7_roomParted_80 rfl (by exact hQ)
      have nx : ∀ (g2 : MG), Sw g g2 → ∀ v5, V E mX7_roomParted 3 0 5 [some (.ref am), some (vI k), some (vI t), some (vI (room + rmL (r.take k.toNat) time [] (2 + g 2 0))), some (vI (i + k)), v5] [] (mkM am B h0 g2) Q X := by
        intro g2 hs2 v5
        have hd2 : (r.drop k.toNat).length = r.length - k.toNat := List.length_drop
        cases hd : r.drop k.toNat with
        | nil =>
          rw [hd] at K
          exact hex _ g2 v5 hs2 hd (K g2 hs2)
        | cons x r' =>
          rw [hd, List.length_cons] at hd2
          rw [hd] at K
          have hS2 := SEG.drop k.toNat r i hS (by omega)
          rw [hd] at hS2
          have hxx := fun y (hy : y ∈ x :: r') => hx y (List.mem_of_mem_drop (by rw [hd]; exact hy))
          rw [show i + (k.toNat : Int) = i + k by omega] at hS2
          refine ih (x :: r') (i + k) x.1 _ g2 v5 hs2 (by omega) (by rw [List.length_cons]; omega) (Or.inr (by rw [List.length_cons]; omega)) (by rw [List.length_cons]; omega) hS2 hxx (hxx x List.mem_cons_self) (by rw [if_neg (by omega)]; exact hS2.1) K
      have L65 : ∀ m : Int, m = (r.take k.toNat).length → V E mX7_roomParted 3 0 65 [some (.ref am), some (vI k), some (vI t), some (vI room), some (vI i), some (vI m)] [vI time, vI m, vI i, .ref am, vI room] (mkM am B h0 g1) Q X := by
        intro m hm
        have hm' : (r.take k.toNat).length = min k.toNat r.length := List.length_take
        refine VM_c3 (M' := mX7_roomOf) okX7_roomOf rfl dX7_roomParted_65 q3010 rfl rfl (Nat.le_of_ble_eq_true rfl) (d' := 2) (b1 := 0) (by decide) (by decide) (c_X7_roomOf hB hr_g1 (l := r.take k.toNat) (by omega) hm (by omega) (hS1.take _ _ _) (by omega) htm (fun x hxm => hx x (List.mem_of_mem_take hxm)) (fun g2 hs2 _ _ => ?_))
        refine V_iadd dX7_roomParted_68 ?_
        refine V_istore_n dX7_roomParted_69 (by decide) ?_
        refine V_iload dX7_roomParted_70 rfl ?_
        refine V_iload_n dX7_roomParted_72 rfl ?_
        refine V_iadd dX7_roomParted_73 ?_
        refine V_istore dX7_roomParted_74 (by decide) ?_
        refine V_goto 5 dX7_roomParted_76 (by decide) ?_
        rw [e2]; exact nx g2 (hs.tr hs2) _
      by_cases ci : i = 0
      · rw [if_pos ci] at hti
        rw [hti] at L65
        refine V_iload dX7_roomParted_5 rfl ?_
        refine V_aload_n dX7_roomParted_7 rfl ?_
        refine VM_getiE 45 (g1 45 0) dX7_roomParted_8 q2651 (by decide) rfl rfl ?_
        refine V_icmp_lt 19 dX7_roomParted_11 (by decide) (by first | omega | exact hr_g _ _ | decide) (by first | omega | exact hr_g _ _ | decide) (fun c_11 => ?_) (fun c_11 => ?_)
        · refine V_aload_n dX7_roomParted_19 rfl ?_
          refine VM_getiE 45 (g1 45 0) dX7_roomParted_20 q2651 (by decide) rfl rfl ?_
          refine V_iload dX7_roomParted_23 rfl ?_
          refine V_isub dX7_roomParted_25 ?_
          refine V_iload_n dX7_roomParted_26 rfl ?_
          refine V_icmp_ge 40 dX7_roomParted_27 (by decide) (by first | omega | exact hr_g _ _ | decide) (by first | omega | exact hr_g _ _ | decide) (fun c_27 => ?_) (fun c_27 => ?_)
          · refine V_iload_n dX7_roomParted_40 rfl ?_
            refine V_istore dX7_roomParted_41 (by decide) ?_
            refine V_iload_n dX7_roomParted_43 rfl ?_
            refine V_aload_n dX7_roomParted_44 rfl ?_
            refine V_iload dX7_roomParted_45 rfl ?_
            refine V_iload dX7_roomParted_47 rfl ?_
            refine V_iload dX7_roomParted_49 rfl ?_
            refine V_if_ne 58 dX7_roomParted_51 (by decide) (by first | omega | exact hr_g _ _ | decide) (fun c_51 => ?_) (fun c_51 => ?_)
            · exfalso; omega
            · refine V_iload_n dX7_roomParted_54 rfl ?_
              refine V_goto 65 dX7_roomParted_55 (by decide) ?_
              refine L65 _ ?_; rw [List.length_take]; omega
          · refine V_aload_n dX7_roomParted_30 rfl ?_
            refine VM_getiE 45 (g1 45 0) dX7_roomParted_31 q2651 (by decide) rfl rfl ?_
            refine V_iload dX7_roomParted_34 rfl ?_
            refine V_isub dX7_roomParted_36 ?_
            refine V_goto 41 dX7_roomParted_37 (by decide) ?_
            refine V_istore dX7_roomParted_41 (by decide) ?_
            refine V_iload_n dX7_roomParted_43 rfl ?_
            refine V_aload_n dX7_roomParted_44 rfl ?_
            refine V_iload dX7_roomParted_45 rfl ?_
            refine V_iload dX7_roomParted_47 rfl ?_
            refine V_iload dX7_roomParted_49 rfl ?_
            refine V_if_ne 58 dX7_roomParted_51 (by decide) (by first | omega | exact hr_g _ _ | decide) (fun c_51 => ?_) (fun c_51 => ?_)
            · exfalso; omega
            · refine V_iload_n dX7_roomParted_54 rfl ?_
              refine V_goto 65 dX7_roomParted_55 (by decide) ?_
              refine L65 _ ?_; rw [List.length_take]; omega
        · refine V_iload dX7_roomParted_14 rfl ?_
          refine V_if_ne 79 dX7_roomParted_16 (by decide) (by first | omega | exact hr_g _ _ | decide) (fun c_16 => ?_) (fun c_16 => ?_)
          · exfalso; omega
          · refine V_aload_n dX7_roomParted_19 rfl ?_
            refine VM_getiE 45 (g1 45 0) dX7_roomParted_20 q2651 (by decide) rfl rfl ?_
            refine V_iload dX7_roomParted_23 rfl ?_
            refine V_isub dX7_roomParted_25 ?_
            refine V_iload_n dX7_roomParted_26 rfl ?_
            refine V_icmp_ge 40 dX7_roomParted_27 (by decide) (by first | omega | exact hr_g _ _ | decide) (by first | omega | exact hr_g _ _ | decide) (fun c_27 => ?_) (fun c_27 => ?_)
            · refine V_iload_n dX7_roomParted_40 rfl ?_
              refine V_istore dX7_roomParted_41 (by decide) ?_
              refine V_iload_n dX7_roomParted_43 rfl ?_
              refine V_aload_n dX7_roomParted_44 rfl ?_
              refine V_iload dX7_roomParted_45 rfl ?_
              refine V_iload dX7_roomParted_47 rfl ?_
              refine V_iload dX7_roomParted_49 rfl ?_
              refine V_if_ne 58 dX7_roomParted_51 (by decide) (by first | omega | exact hr_g _ _ | decide) (fun c_51 => ?_) (fun c_51 => ?_)
              · exfalso; omega
              · refine V_iload_n dX7_roomParted_54 rfl ?_
                refine V_goto 65 dX7_roomParted_55 (by decide) ?_
                refine L65 _ ?_; rw [List.length_take]; omega
            · refine V_aload_n dX7_roomParted_30 rfl ?_
              refine VM_getiE 45 (g1 45 0) dX7_roomParted_31 q2651 (by decide) rfl rfl ?_
              refine V_iload dX7_roomParted_34 rfl ?_
              refine V_isub dX7_roomParted_36 ?_
              refine V_goto 41 dX7_roomParted_37 (by decide) ?_
              refine V_istore dX7_roomParted_41 (by decide) ?_
              refine V_iload_n dX7_roomParted_43 rfl ?_
              refine V_aload_n dX7_roomParted_44 rfl ?_
              refine V_iload dX7_roomParted_45 rfl ?_
              refine V_iload dX7_roomParted_47 rfl ?_
              refine V_iload dX7_roomParted_49 rfl ?_
              refine V_if_ne 58 dX7_roomParted_51 (by decide) (by first | omega | exact hr_g _ _ | decide) (fun c_51 => ?_) (fun c_51 => ?_)
              · exfalso; omega
              · refine V_iload_n dX7_roomParted_54 rfl ?_
                refine V_goto 65 dX7_roomParted_55 (by decide) ?_
                refine L65 _ ?_; rw [List.length_take]; omega
      · rw [if_neg ci] at hti
        refine V_iload dX7_roomParted_5 rfl ?_
        refine V_aload_n dX7_roomParted_7 rfl ?_
        refine VM_getiE 45 (g1 45 0) dX7_roomParted_8 q2651 (by decide) rfl rfl ?_
        refine V_icmp_lt 19 dX7_roomParted_11 (by decide) (by first | omega | exact hr_g _ _ | decide) (by first | omega | exact hr_g _ _ | decide) (fun c_11 => ?_) (fun c_11 => ?_)
        · refine V_aload_n dX7_roomParted_19 rfl ?_
          refine VM_getiE 45 (g1 45 0) dX7_roomParted_20 q2651 (by decide) rfl rfl ?_
          refine V_iload dX7_roomParted_23 rfl ?_
          refine V_isub dX7_roomParted_25 ?_
          refine V_iload_n dX7_roomParted_26 rfl ?_
          refine V_icmp_ge 40 dX7_roomParted_27 (by decide) (by first | omega | exact hr_g _ _ | decide) (by first | omega | exact hr_g _ _ | decide) (fun c_27 => ?_) (fun c_27 => ?_)
          · refine V_iload_n dX7_roomParted_40 rfl ?_
            refine V_istore dX7_roomParted_41 (by decide) ?_
            refine V_iload_n dX7_roomParted_43 rfl ?_
            refine V_aload_n dX7_roomParted_44 rfl ?_
            refine V_iload dX7_roomParted_45 rfl ?_
            refine V_iload dX7_roomParted_47 rfl ?_
            refine V_iload dX7_roomParted_49 rfl ?_
            refine V_if_ne 58 dX7_roomParted_51 (by decide) (by first | omega | exact hr_g _ _ | decide) (fun c_51 => ?_) (fun c_51 => ?_)
            · refine V_aload_n dX7_roomParted_58 rfl ?_
              refine VM_geta 43 dX7_roomParted_59 q2649 (by decide) rfl ?_
              refine V_iload dX7_roomParted_62 rfl ?_
              refine VM_ialdE 43 (g1 43 i) hB dX7_roomParted_64 mar43 rfl (by first | omega | (simp [gup, aup]; omega)) (by show _ < (48 : Int); first | omega | (simp [gup, aup]; omega)) (by decide) rfl ?_
              rw [e43i, hti]; refine L65 _ ?_; rw [List.length_take]; omega
            · exfalso; omega
          · refine V_aload_n dX7_roomParted_30 rfl ?_
            refine VM_getiE 45 (g1 45 0) dX7_roomParted_31 q2651 (by decide) rfl rfl ?_
            refine V_iload dX7_roomParted_34 rfl ?_
            refine V_isub dX7_roomParted_36 ?_
            refine V_goto 41 dX7_roomParted_37 (by decide) ?_
            refine V_istore dX7_roomParted_41 (by decide) ?_
            refine V_iload_n dX7_roomParted_43 rfl ?_
            refine V_aload_n dX7_roomParted_44 rfl ?_
            refine V_iload dX7_roomParted_45 rfl ?_
            refine V_iload dX7_roomParted_47 rfl ?_
            refine V_iload dX7_roomParted_49 rfl ?_
            refine V_if_ne 58 dX7_roomParted_51 (by decide) (by first | omega | exact hr_g _ _ | decide) (fun c_51 => ?_) (fun c_51 => ?_)
            · refine V_aload_n dX7_roomParted_58 rfl ?_
              refine VM_geta 43 dX7_roomParted_59 q2649 (by decide) rfl ?_
              refine V_iload dX7_roomParted_62 rfl ?_
              refine VM_ialdE 43 (g1 43 i) hB dX7_roomParted_64 mar43 rfl (by first | omega | (simp [gup, aup]; omega)) (by show _ < (48 : Int); first | omega | (simp [gup, aup]; omega)) (by decide) rfl ?_
              rw [e43i, hti]; refine L65 _ ?_; rw [List.length_take]; omega
            · exfalso; omega
        · refine V_iload dX7_roomParted_14 rfl ?_
          refine V_if_ne 79 dX7_roomParted_16 (by decide) (by first | omega | exact hr_g _ _ | decide) (fun c_16 => ?_) (fun c_16 => ?_)
          · exfalso; omega
          · refine V_aload_n dX7_roomParted_19 rfl ?_
            refine VM_getiE 45 (g1 45 0) dX7_roomParted_20 q2651 (by decide) rfl rfl ?_
            refine V_iload dX7_roomParted_23 rfl ?_
            refine V_isub dX7_roomParted_25 ?_
            refine V_iload_n dX7_roomParted_26 rfl ?_
            refine V_icmp_ge 40 dX7_roomParted_27 (by decide) (by first | omega | exact hr_g _ _ | decide) (by first | omega | exact hr_g _ _ | decide) (fun c_27 => ?_) (fun c_27 => ?_)
            · refine V_iload_n dX7_roomParted_40 rfl ?_
              refine V_istore dX7_roomParted_41 (by decide) ?_
              refine V_iload_n dX7_roomParted_43 rfl ?_
              refine V_aload_n dX7_roomParted_44 rfl ?_
              refine V_iload dX7_roomParted_45 rfl ?_
              refine V_iload dX7_roomParted_47 rfl ?_
              refine V_iload dX7_roomParted_49 rfl ?_
              refine V_if_ne 58 dX7_roomParted_51 (by decide) (by first | omega | exact hr_g _ _ | decide) (fun c_51 => ?_) (fun c_51 => ?_)
              · refine V_aload_n dX7_roomParted_58 rfl ?_
                refine VM_geta 43 dX7_roomParted_59 q2649 (by decide) rfl ?_
                refine V_iload dX7_roomParted_62 rfl ?_
                refine VM_ialdE 43 (g1 43 i) hB dX7_roomParted_64 mar43 rfl (by first | omega | (simp [gup, aup]; omega)) (by show _ < (48 : Int); first | omega | (simp [gup, aup]; omega)) (by decide) rfl ?_
                rw [e43i, hti]; refine L65 _ ?_; rw [List.length_take]; omega
              · exfalso; omega
            · refine V_aload_n dX7_roomParted_30 rfl ?_
              refine VM_getiE 45 (g1 45 0) dX7_roomParted_31 q2651 (by decide) rfl rfl ?_
              refine V_iload dX7_roomParted_34 rfl ?_
              refine V_isub dX7_roomParted_36 ?_
              refine V_goto 41 dX7_roomParted_37 (by decide) ?_
              refine V_istore dX7_roomParted_41 (by decide) ?_
              refine V_iload_n dX7_roomParted_43 rfl ?_
              refine V_aload_n dX7_roomParted_44 rfl ?_
              refine V_iload dX7_roomParted_45 rfl ?_
              refine V_iload dX7_roomParted_47 rfl ?_
              refine V_iload dX7_roomParted_49 rfl ?_
              refine V_if_ne 58 dX7_roomParted_51 (by decide) (by first | omega | exact hr_g _ _ | decide) (fun c_51 => ?_) (fun c_51 => ?_)
              · refine V_aload_n dX7_roomParted_58 rfl ?_
                refine VM_geta 43 dX7_roomParted_59 q2649 (by decide) rfl ?_
                refine V_iload dX7_roomParted_62 rfl ?_
                refine VM_ialdE 43 (g1 43 i) hB dX7_roomParted_64 mar43 rfl (by first | omega | (simp [gup, aup]; omega)) (by show _ < (48 : Int); first | omega | (simp [gup, aup]; omega)) (by decide) rfl ?_
                rw [e43i, hti]; refine L65 _ ?_; rw [List.length_take]; omega
              · exfalso; omega
  refine V_iconst dX7_roomParted_0 ?_
  refine V_istore_n dX7_roomParted_1 (by decide) ?_
  refine V_iconst dX7_roomParted_2 ?_
  refine V_istore dX7_roomParted_3 (by decide) ?_
  exact L 49 l 0 t 0 g _ ⟨fun _ _ _ => rfl, hr_g⟩ (by omega) (by omega) (Or.inl rfl) (by omega) hR.2 hlt ht (by rw [if_pos rfl]) K
end M29
