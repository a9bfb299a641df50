/-! THE REFERENCE'S METHODS, part 27: room of rows of changes -/
/-- where a value is among some; as many as they are if it isn't -/
def plc (v : Int) : List Int → Int
  | [] => 0
  | w :: r => if w = v then 0 else 1 + plc v r
def plW (v : Int) (W : List Int) : List Int := if plc v W = W.length then W ++ [v] else W
theorem plc_c {v w : Int} {r : List Int} : plc v (w :: r) = if w = v then 0 else 1 + plc v r := rfl
theorem plc_in (v : Int) : ∀ W : List Int, 0 ≤ plc v W ∧ plc v W ≤ W.length := by
  intro W
  induction W with
  | nil => unfold plc; exact ⟨Int.le_refl _, Int.le_refl _⟩
  | cons w r ih =>
    unfold plc
    rw [List.length_cons]
    split <;> omega
theorem plW_len (v : Int) (W : List Int) : (plW v W).length ≤ W.length + 1 := by
  unfold plW
  split
  · rw [List.length_append]; exact Nat.le_refl _
  · omega
/-- room of changes (time, value) behind a time, some values met -/
def rmL : List (Int × Int) → Int → List Int → Int → Int
  | [], _, W, room => room + 2 * (W.length : Int)
  | x :: r, t, W, room => rmL r x.1 (plW x.2 W) (room + (1 + (if 1 < plc x.2 W then 1 else 0) + (if x.1 - t = 0 then 0 else if x.1 - t < 16 then 1 else 2)))
def rwL : List (Int × Int) → List Int → List Int
  | [], W => W
  | x :: r, W => rwL r (plW x.2 W)
theorem rmL_in : ∀ (l : List (Int × Int)) (t : Int) (W : List Int) (room : Int), room ≤ rmL l t W room ∧ rmL l t W room ≤ room + 6 * (l.length : Int) + 2 * (W.length : Int) := by
  intro l
  induction l with
  | nil => intro t W room; unfold rmL; simp only [List.length_nil]; omega
  | cons x r ih =>
    intro t W room
    unfold rmL
    have h1 := plW_len x.2 W
    have h2 := ih x.1 (plW x.2 W) (room + (1 + (if 1 < plc x.2 W then 1 else 0) + (if x.1 - t = 0 then 0 else if x.1 - t < 16 then 1 else 2)))
    rw [List.length_cons]
    generalize rmL r x.1 (plW x.2 W) _ = z at *
    split at h2 <;> split at h2 <;> (try split at h2) <;> omega
theorem rwL_len : ∀ (l : List (Int × Int)) (W : List Int), (rwL l W).length ≤ W.length + l.length := by
  intro l
  induction l with
  | nil => intro W; unfold rwL; exact Nat.le_refl _
  | cons x r ih =>
    intro W
    unfold rwL
    have h1 := plW_len x.2 W
    have h2 := ih (plW x.2 W)
    rw [List.length_cons]
    omega
def SEG (g : MG) : Int → List (Int × Int) → Prop
  | _, [] => True
  | i, x :: r => g 43 i = x.1 ∧ g 44 i = x.2 ∧ SEG g (i + 1) r
def WSG (g : MG) : Int → List Int → Prop
  | _, [] => True
  | i, w :: r => g 46 i = w ∧ WSG g (i + 1) r
theorem SEG.same {g g' : MG} (e : g' 43 = g 43) (e' : g' 44 = g 44) : ∀ (l : List (Int × Int)) (i : Int), SEG g i l → SEG g' i l := by
  intro l
  induction l with
  | nil => intro i _; trivial
  | cons x r ih => intro i h; exact ⟨by rw [e]; exact h.1, by rw [e']; exact h.2.1, ih _ h.2.2⟩
theorem SEG.app {g : MG} : ∀ (l m : List (Int × Int)) (i : Int), SEG g i (l ++ m) ↔ SEG g i l ∧ SEG g (i + l.length) m := by
  intro l
  induction l with
  | nil => intro m i; simp [SEG]
  | cons x r ih =>
    intro m i
    show (_ ∧ _ ∧ SEG g (i + 1) (r ++ m)) ↔ (_ ∧ _ ∧ SEG g (i + 1) r) ∧ _
    rw [ih, List.length_cons, show i + 1 + (r.length : Int) = i + ((r.length + 1 : Nat) : Int) by omega]
    simp only [and_assoc]
theorem WSG.up {g g' : MG} {n v : Int} (e : g' 46 = aup (g 46) n v) : ∀ (l : List Int) (i : Int), i + l.length = n → WSG g i l → WSG g' i (l ++ [v]) := by
  intro l
  induction l with
  | nil =>
    intro i hi _
    refine ⟨?_, trivial⟩
    rw [e]
    have : i = n := by simpa using hi
    rw [this, aup_eq]
  | cons x r ih =>
    intro i hi h
    rw [List.length_cons] at hi
    refine ⟨?_, ih (i + 1) (by omega) h.2⟩
    rw [e, aup_nn (by omega)]
    exact h.1
/-- but for words all is the same -/
def Sw (g g' : MG) : Prop := (∀ k, k ≠ 46 → k ≠ 47 → g' k = g k) ∧ Rng g'
theorem Sw.tr {g g' g'' : MG} (h : Sw g g') (h' : Sw g' g'') : Sw g g'' := ⟨fun k h1 h2 => (h'.1 k h1 h2).trans (h.1 k h1 h2), h'.2⟩
theorem Sw.sm {g g' : MG} (h : Sw g g') : Sm g g' := ⟨fun k hk => h.1 k (by omega) (by omega), h.2⟩
section M27
variable {E : Ev} {am : Nat} {B : Nat → Nat} {h0 h : AH} {g : MG} {Q : Value → AH → Prop} {X : Nat → AH → Prop}
theorem c_X7_placeOf (hB : MB am B) (hr_g : Rng g) {v : Int} {W : List Int} (hv : inr v) (hn : g 47 0 = W.length) (h8 : W.length ≤ 8) (h7 : plc v W = W.length → W.length ≤ 7) (hW : WSG g 0 W) (K : ∀ g', Sw g g' → g' 47 0 = (plW v W).length → WSG g' 0 (plW v W) → Q (vI (plc v W)) (mkM am B h0 g')) : V E mX7_placeOf 1 0 0 [some (.ref am), some (vI v), none] [] (mkM am B h0 g) Q X := by
  have L : ∀ (r : List Int) (k : Int), 0 ≤ k → k + r.length = W.length → WSG g k r → plc v W = k + plc v r → V E mX7_placeOf 1 0 2 [some (.ref am), some (vI v), some (vI k)] [] (mkM am B h0 g) Q X := by
    intro r
    induction r with
    | nil =>
      intro k h0k hk _ hp
      have hk' : k = W.length := by simpa using hk
      have hpW : plc v W = W.length := by rw [hp, show plc v [] = 0 from rfl]; omega
      have h7 := h7 hpW
      have ew : plW v W = W ++ [v] := by unfold plW; rw [if_pos hpW]
      have K := K (gup (gup g 46 W.length v) 47 0 ((W.length : Int) + 1)) ⟨fun k h1 h2 => by rw [gup_ne h2, gup_ne h1], (hr_g.up hv).up (by constructor <;> omega)⟩ (by rw [ew, List.length_append]; rfl) (by rw [ew]; exact WSG.up (n := W.length) (by rw [gup_ne (by omega), gup_k]) W 0 (by omega) hW)
      rw [hpW] at K
      refine V_iload_n dX7_placeOf_2 rfl ?_
      refine V_aload_n dX7_placeOf_3 rfl ?_
      refine VM_getiE 47 (g 47 0) dX7_placeOf_4 q2653 (by decide) rfl rfl ?_
      refine V_icmp_ge 28 dX7_placeOf_7 (by decide) (by first | omega | exact hr_g _ _ | decide) (by first | omega | exact hr_g _ _ | decide) (fun c_7 => ?_) (fun c_7 => by exfalso; omega)
      refine V_aload_n dX7_placeOf_28 rfl ?_
      refine VM_geta 46 dX7_placeOf_29 q2652 (by decide) rfl ?_
      refine V_aload_n dX7_placeOf_32 rfl ?_
      refine VM_getiE 47 (g 47 0) dX7_placeOf_33 q2653 (by decide) rfl rfl ?_
      refine V_iload_n dX7_placeOf_36 rfl ?_
      refine VM_iast 46 hB dX7_placeOf_37 mar46 rfl mfa46 (by first | omega | (simp [gup, aup]; omega)) (by show _ < (8 : Int); first | omega | (simp [gup, aup]; omega)) (by decide) ?_
      refine V_aload_n dX7_placeOf_38 rfl ?_
      refine V_dup dX7_placeOf_39 rfl ?_
      refine VM_getiE 47 (g 47 0) dX7_placeOf_40 q2653 (by decide) rfl rfl ?_
      refine V_iconst dX7_placeOf_43 ?_
      refine V_iadd dX7_placeOf_44 ?_
      refine VM_puti 47 dX7_placeOf_45 q2653 (by decide) rfl rfl mfs47 mna47 ?_
      refine V_aload_n dX7_placeOf_48 rfl ?_
      refine VM_getiE 47 ((g 47 0) + 1) dX7_placeOf_49 q2653 (by decide) rfl rfl ?_
      refine V_iconst dX7_placeOf_52 ?_
      refine V_isub dX7_placeOf_53 ?_
      exact V_iret dX7_placeOf_54 rfl (by rw [hn, show (W.length : Int) + 1 - 1 = W.length by omega]; exact K)
    | cons w r ih =>
      intro k h0k hk hs hp
      rw [List.length_cons] at hk
      have hs1 := hs.1
      rw [plc_c] at hp
      by_cases cw : w = v
      · rw [if_pos cw] at hp
        have hne : plc v W ≠ W.length := by omega
        have ew : plW v W = W := by unfold plW; rw [if_neg hne]
        rw [ew, hp, Int.add_zero] at K
        refine V_iload_n dX7_placeOf_2 rfl ?_
        refine V_aload_n dX7_placeOf_3 rfl ?_
        refine VM_getiE 47 (g 47 0) dX7_placeOf_4 q2653 (by decide) rfl rfl ?_
        refine V_icmp_ge 28 dX7_placeOf_7 (by decide) (by first | omega | exact hr_g _ _ | decide) (by first | omega | exact hr_g _ _ | decide) (fun c_7 => by exfalso; omega) (fun c_7 => ?_)
        refine V_aload_n dX7_placeOf_10 rfl ?_
        refine VM_geta 46 dX7_placeOf_11 q2652 (by decide) rfl ?_
        refine V_iload_n dX7_placeOf_14 rfl ?_
        refine VM_ialdE 46 (g 46 k) hB dX7_placeOf_15 mar46 rfl (by first | omega | (simp [gup, aup]; omega)) (by show _ < (8 : Int); first | omega | (simp [gup, aup]; omega)) (by decide) rfl ?_
        refine V_iload_n dX7_placeOf_16 rfl ?_
        refine V_icmp_ne 22 dX7_placeOf_17 (by decide) (by first | omega | exact hr_g _ _ | decide) (by first | omega | exact hr_g _ _ | decide) (fun c_17 => by exfalso; omega) (fun c_17 => ?_)
        refine V_iload_n dX7_placeOf_20 rfl ?_
        exact V_iret dX7_placeOf_21 rfl (by exact K g ⟨fun _ _ _ => rfl, hr_g⟩ hn hW)
      · rw [if_neg cw] at hp
        refine V_iload_n dX7_placeOf_2 rfl ?_
        refine V_aload_n dX7_placeOf_3 rfl ?_
        refine VM_getiE 47 (g 47 0) dX7_placeOf_4 q2653 (by decide) rfl rfl ?_
        refine V_icmp_ge 28 dX7_placeOf_7 (by decide) (by first | omega | exact hr_g _ _ | decide) (by first | omega | exact hr_g _ _ | decide) (fun c_7 => by exfalso; omega) (fun c_7 => ?_)
        refine V_aload_n dX7_placeOf_10 rfl ?_
        refine VM_geta 46 dX7_placeOf_11 q2652 (by decide) rfl ?_
        refine V_iload_n dX7_placeOf_14 rfl ?_
        refine VM_ialdE 46 (g 46 k) hB dX7_placeOf_15 mar46 rfl (by first | omega | (simp [gup, aup]; omega)) (by show _ < (8 : Int); first | omega | (simp [gup, aup]; omega)) (by decide) rfl ?_
        refine V_iload_n dX7_placeOf_16 rfl ?_
        refine V_icmp_ne 22 dX7_placeOf_17 (by decide) (by first | omega | exact hr_g _ _ | decide) (by first | omega | exact hr_g _ _ | decide) (fun c_17 => ?_) (fun c_17 => by exfalso; omega)
        refine V_iinc dX7_placeOf_22 rfl (by decide) ?_
        refine V_goto 2 dX7_placeOf_25 (by decide) ?_
        exact ih (k + 1) (by omega) (by omega) hs.2 (by omega)
  refine V_iconst dX7_placeOf_0 ?_
  refine V_istore_n dX7_placeOf_1 (by decide) ?_
  exact L W 0 (by omega) (by omega) hW (by omega)
theorem c_X7_roomOf (hB : MB am B) (hr_g : Rng g) {l : List (Int × Int)} {a n b : Int} (ha : 0 ≤ a ∧ a + n ≤ 48) (hn : n = l.length) (hl : l.length ≤ 8) (hS : SEG g a l) (hw : 0 ≤ g 2 0 ∧ g 2 0 ≤ 6) (hbi : 0 ≤ b ∧ b ≤ 999) (ht : ∀ x ∈ l, 0 ≤ x.1 ∧ x.1 ≤ 999) (K : ∀ g', Sw g g' → g' 47 0 = (rwL l []).length → WSG g' 0 (rwL l []) → Q (vI (rmL l b [] (2 + g 2 0))) (mkM am B h0 g')) : V E mX7_roomOf 2 0 0 [some (.ref am), some (vI a), some (vI n), some (vI b), none, none, none, none] [] (mkM am B h0 g) Q X := by
  have L : ∀ (r : List (Int × Int)) (i time room : Int) (W : List Int) (g1 : MG) (v7 : Option Value), Sw g g1 → a ≤ i → i + r.length = a + n → W.length + r.length ≤ 8 → SEG g i r → (∀ x ∈ r, 0 ≤ x.1 ∧ x.1 ≤ 999) → (0 ≤ time ∧ time ≤ 999) → g1 47 0 = W.length → WSG g1 0 W → (∀ g', Sw g g' → g' 47 0 = (rwL r W).length → WSG g' 0 (rwL r W) → Q (vI (rmL r time W room)) (mkM am B h0 g')) → V E mX7_roomOf 2 0 19 [some (.ref am), some (vI a), some (vI n), some (vI b), some (vI room), some (vI time), some (vI i), v7] [] (mkM am B h0 g1) Q X := by
    intro r
    induction r with
    | nil =>
      intro i time room W g1 v7 hs h1 h2 h3 h4 hx htm h5 h6 K
      have hr_g1 := hs.2
      rw [List.length_nil] at h2
      have K := K g1 hs h5 h6
      unfold rmL at K
      refine V_iload dX7_roomOf_19 rfl ?_
      refine V_iload_n dX7_roomOf_21 rfl ?_
      refine V_iload_n dX7_roomOf_22 rfl ?_
      refine V_iadd dX7_roomOf_23 ?_
      refine V_icmp_ge 103 dX7_roomOf_24 (by decide) (by first | omega | exact hr_g _ _ | decide) (by first | omega | exact hr_g _ _ | decide) (fun c_24 => ?_) (fun c_24 => by exfalso; omega)
      refine V_iload dX7_roomOf_103 rfl ?_
      refine V_iconst dX7_roomOf_105 ?_
      refine V_aload_n dX7_roomOf_106 rfl ?_
      refine VM_getiE 47 (g1 47 0) dX7_roomOf_107 q2653 (by decide) rfl rfl ?_
      refine V_imul dX7_roomOf_110 ?_
      refine V_iadd dX7_roomOf_111 ?_
      exact V_iret dX7_roomOf_112 rfl (by rw [h5]; exact K)
    | cons x r ih =>
      intro i time room W g1 v7 hs h1 h2 h3 h4 hx htm h5 h6 K
      have hr_g1 := hs.2
      rw [List.length_cons] at h2 h3
      have hx1 := hx x (List.mem_cons_self)
      have e43 : g1 43 i = x.1 := by rw [hs.1 43 (by omega) (by omega)]; exact h4.1
      have e44 : g1 44 i = x.2 := by rw [hs.1 44 (by omega) (by omega)]; exact h4.2.1
      have hpl := plc_in x.2 W
      have hpw := plW_len x.2 W
      unfold rmL rwL at K
      have go : ∀ g2 : MG, Sw g1 g2 → g2 47 0 = (plW x.2 W).length → WSG g2 0 (plW x.2 W) → ∀ room', (∀ g', Sw g g' → g' 47 0 = (rwL r (plW x.2 W)).length → WSG g' 0 (rwL r (plW x.2 W)) → Q (vI (rmL r x.1 (plW x.2 W) room')) (mkM am B h0 g')) → V E mX7_roomOf 2 0 88 [some (.ref am), some (vI a), some (vI n), some (vI b), some (vI room'), some (vI time), some (vI i), some (vI (x.1 - time))] [] (mkM am B h0 g2) Q X := by
        intro g2 hs2 q1 q2 room' K'
        have hr_g2 := hs2.2
        have f43 : g2 43 i = x.1 := by rw [hs2.1 43 (by omega) (by omega)]; exact e43
        refine V_aload_n dX7_roomOf_88 rfl ?_
        refine VM_geta 43 dX7_roomOf_89 q2649 (by decide) rfl ?_
        refine V_iload dX7_roomOf_92 rfl ?_
        refine VM_ialdE 43 (g2 43 i) hB dX7_roomOf_94 mar43 rfl (by first | omega | (simp [gup, aup]; omega)) (by show _ < (48 : Int); first | omega | (simp [gup, aup]; omega)) (by decide) rfl ?_
        refine V_istore dX7_roomOf_95 (by decide) ?_
        refine V_iinc dX7_roomOf_97 rfl (by decide) ?_
        refine V_goto 19 dX7_roomOf_100 (by decide) ?_
        rw [f43]; exact ih (i + 1) x.1 room' (plW x.2 W) g2 _ (hs.tr hs2) (by omega) (by omega) (by omega) h4.2.2 (fun y hy => hx y (List.mem_cons_of_mem _ hy)) hx1 q1 q2 K'
      refine V_iload dX7_roomOf_19 rfl ?_
      refine V_iload_n dX7_roomOf_21 rfl ?_
      refine V_iload_n dX7_roomOf_22 rfl ?_
      refine V_iadd dX7_roomOf_23 ?_
      refine V_icmp_ge 103 dX7_roomOf_24 (by decide) (by first | omega | exact hr_g1 _ _ | decide | (constructor <;> omega)) (by first | omega | exact hr_g1 _ _ | decide | (constructor <;> omega)) (fun c_24 => by exfalso; omega) (fun c_24 => ?_)
      refine V_aload_n dX7_roomOf_27 rfl ?_
      refine VM_geta 43 dX7_roomOf_28 q2649 (by decide) rfl ?_
      refine V_iload dX7_roomOf_31 rfl ?_
      refine VM_ialdE 43 (g1 43 i) hB dX7_roomOf_33 mar43 rfl (by first | omega | (simp [gup, aup]; omega)) (by show _ < (48 : Int); first | omega | (simp [gup, aup]; omega)) (by decide) rfl ?_
      refine V_iload dX7_roomOf_34 rfl ?_
      refine V_isub dX7_roomOf_36 ?_
      refine V_istore dX7_roomOf_37 (by decide) ?_
      refine V_iload dX7_roomOf_39 rfl ?_
      refine V_iconst dX7_roomOf_41 ?_
      refine V_aload_n dX7_roomOf_42 rfl ?_
      refine V_aload_n dX7_roomOf_43 rfl ?_
      refine VM_geta 44 dX7_roomOf_44 q2650 (by decide) rfl ?_
      refine V_iload dX7_roomOf_47 rfl ?_
      refine VM_ialdE 44 (g1 44 i) hB dX7_roomOf_49 mar44 rfl (by first | omega | (simp [gup, aup]; omega)) (by show _ < (48 : Int); first | omega | (simp [gup, aup]; omega)) (by decide) rfl ?_
      refine VM_c1 (M' := mX7_placeOf) okX7_placeOf rfl dX7_roomOf_50 q3014 rfl rfl (Nat.le_of_ble_eq_true rfl) (d' := 1) (b1 := 0) (by decide) (by decide) (c_X7_placeOf hB hr_g1 (W := W) (hr_g1 _ _) h5 (by omega) (fun _ => by omega) h6 (fun g2 hs2 q1 q2 => ?_))
      refine V_top (plc x.2 W) (by rw [e44]) ?_
      refine V_iconst dX7_roomOf_53 ?_
      refine V_icmp_le 61 dX7_roomOf_54 (by decide) (by first | omega | exact hr_g1 _ _ | decide | (constructor <;> omega)) (by first | omega | exact hr_g1 _ _ | decide | (constructor <;> omega)) (fun c_54 => ?_) (fun c_54 => ?_)
      · refine V_iconst dX7_roomOf_61 ?_
        refine V_iadd dX7_roomOf_62 ?_
        refine V_iload dX7_roomOf_63 rfl ?_
        refine V_if_ne 72 dX7_roomOf_65 (by decide) (by first | omega | exact hr_g1 _ _ | decide | (constructor <;> omega)) (fun c_65 => ?_) (fun c_65 => ?_)
        · refine V_iload dX7_roomOf_72 rfl ?_
          refine V_bipush dX7_roomOf_74 (by decide) ?_
          refine V_icmp_ge 83 dX7_roomOf_76 (by decide) (by first | omega | exact hr_g1 _ _ | decide | (constructor <;> omega)) (by first | omega | exact hr_g1 _ _ | decide | (constructor <;> omega)) (fun c_76 => ?_) (fun c_76 => ?_)
          · refine V_iconst dX7_roomOf_83 ?_
            refine V_iadd dX7_roomOf_84 ?_
            refine V_iadd dX7_roomOf_85 ?_
            refine V_istore dX7_roomOf_86 (by decide) ?_
            rw [e44] at q1 q2; rw [e43]; refine go g2 hs2 q1 q2 _ ?_; (first | simp only [if_pos (show 1 < plc x.2 W by omega)] at K | simp only [if_neg (show ¬ 1 < plc x.2 W by omega)] at K); (first | simp only [if_pos (show x.1 - time = 0 by omega)] at K | (simp only [if_neg (show ¬ x.1 - time = 0 by omega)] at K; first | simp only [if_pos (show x.1 - time < 16 by omega)] at K | simp only [if_neg (show ¬ x.1 - time < 16 by omega)] at K)); exact K
          · refine V_iconst dX7_roomOf_79 ?_
            refine V_goto 84 dX7_roomOf_80 (by decide) ?_
            refine V_iadd dX7_roomOf_84 ?_
            refine V_iadd dX7_roomOf_85 ?_
            refine V_istore dX7_roomOf_86 (by decide) ?_
            rw [e44] at q1 q2; rw [e43]; refine go g2 hs2 q1 q2 _ ?_; (first | simp only [if_pos (show 1 < plc x.2 W by omega)] at K | simp only [if_neg (show ¬ 1 < plc x.2 W by omega)] at K); (first | simp only [if_pos (show x.1 - time = 0 by omega)] at K | (simp only [if_neg (show ¬ x.1 - time = 0 by omega)] at K; first | simp only [if_pos (show x.1 - time < 16 by omega)] at K | simp only [if_neg (show ¬ x.1 - time < 16 by omega)] at K)); exact K
        · refine V_iconst dX7_roomOf_68 ?_
          refine V_goto 84 dX7_roomOf_69 (by decide) ?_
          refine V_iadd dX7_roomOf_84 ?_
          refine V_iadd dX7_roomOf_85 ?_
          refine V_istore dX7_roomOf_86 (by decide) ?_
          rw [e44] at q1 q2; rw [e43]; refine go g2 hs2 q1 q2 _ ?_; (first | simp only [if_pos (show 1 < plc x.2 W by omega)] at K | simp only [if_neg (show ¬ 1 < plc x.2 W by omega)] at K); (first | simp only [if_pos (show x.1 - time = 0 by omega)] at K | (simp only [if_neg (show ¬ x.1 - time = 0 by omega)] at K; first | simp only [if_pos (show x.1 - time < 16 by omega)] at K | simp only [if_neg (show ¬ x.1 - time < 16 by omega)] at K)); exact K
      · refine V_iconst dX7_roomOf_57 ?_
        refine V_goto 62 dX7_roomOf_58 (by decide) ?_
        refine V_iadd dX7_roomOf_62 ?_
        refine V_iload dX7_roomOf_63 rfl ?_
        refine V_if_ne 72 dX7_roomOf_65 (by decide) (by first | omega | exact hr_g1 _ _ | decide | (constructor <;> omega)) (fun c_65 => ?_) (fun c_65 => ?_)
        · refine V_iload dX7_roomOf_72 rfl ?_
          refine V_bipush dX7_roomOf_74 (by decide) ?_
          refine V_icmp_ge 83 dX7_roomOf_76 (by decide) (by first | omega | exact hr_g1 _ _ | decide | (constructor <;> omega)) (by first | omega | exact hr_g1 _ _ | decide | (constructor <;> omega)) (fun c_76 => ?_) (fun c_76 => ?_)
          · refine V_iconst dX7_roomOf_83 ?_
            refine V_iadd dX7_roomOf_84 ?_
            refine V_iadd dX7_roomOf_85 ?_
            refine V_istore dX7_roomOf_86 (by decide) ?_
            rw [e44] at q1 q2; rw [e43]; refine go g2 hs2 q1 q2 _ ?_; (first | simp only [if_pos (show 1 < plc x.2 W by omega)] at K | simp only [if_neg (show ¬ 1 < plc x.2 W by omega)] at K); (first | simp only [if_pos (show x.1 - time = 0 by omega)] at K | (simp only [if_neg (show ¬ x.1 - time = 0 by omega)] at K; first | simp only [if_pos (show x.1 - time < 16 by omega)] at K | simp only [if_neg (show ¬ x.1 - time < 16 by omega)] at K)); exact K
          · refine V_iconst dX7_roomOf_79 ?_
            refine V_goto 84 dX7_roomOf_80 (by decide) ?_
            refine V_iadd dX7_roomOf_84 ?_
            refine V_iadd dX7_roomOf_85 ?_
            refine V_istore dX7_roomOf_86 (by decide) ?_
            rw [e44] at q1 q2; rw [e43]; refine go g2 hs2 q1 q2 _ ?_; (first | simp only [if_pos (show 1 < plc x.2 W by omega)] at K | simp only [if_neg (show ¬ 1 < plc x.2 W by omega)] at K); (first | simp only [if_pos (show x.1 - time = 0 by omega)] at K | (simp only [if_neg (show ¬ x.1 - time = 0 by omega)] at K; first | simp only [if_pos (show x.1 - time < 16 by omega)] at K | simp only [if_neg (show ¬ x.1 - time < 16 by omega)] at K)); exact K
        · refine V_iconst dX7_roomOf_68 ?_
          refine V_goto 84 dX7_roomOf_69 (by decide) ?_
          refine V_iadd dX7_roomOf_84 ?_
          refine V_iadd dX7_roomOf_85 ?_
          refine V_istore dX7_roomOf_86 (by decide) ?_
          rw [e44] at q1 q2; rw [e43]; refine go g2 hs2 q1 q2 _ ?_; (first | simp only [if_pos (show 1 < plc x.2 W by omega)] at K | simp only [if_neg (show ¬ 1 < plc x.2 W by omega)] at K); (first | simp only [if_pos (show x.1 - time = 0 by omega)] at K | (simp only [if_neg (show ¬ x.1 - time = 0 by omega)] at K; first | simp only [if_pos (show x.1 - time < 16 by omega)] at K | simp only [if_neg (show ¬ x.1 - time < 16 by omega)] at K)); exact K
  refine V_aload_n dX7_roomOf_0 rfl ?_
  refine V_iconst dX7_roomOf_1 ?_
  refine VM_puti 47 dX7_roomOf_2 q2653 (by decide) rfl rfl mfs47 mna47 ?_
  refine V_iconst dX7_roomOf_5 ?_
  refine V_aload_n dX7_roomOf_6 rfl ?_
  refine VM_getiE 2 (g 2 0) dX7_roomOf_7 q2608 (by decide) rfl rfl ?_
  refine V_iadd dX7_roomOf_10 ?_
  refine V_istore dX7_roomOf_11 (by decide) ?_
  refine V_iload_n dX7_roomOf_13 rfl ?_
  refine V_istore dX7_roomOf_14 (by decide) ?_
  refine V_iload_n dX7_roomOf_16 rfl ?_
  refine V_istore dX7_roomOf_17 (by decide) ?_
  exact L l a b (2 + g 2 0) [] _ _ ⟨fun k h1 h2 => gup_ne h2, hr_g.up (by decide)⟩ (Int.le_refl _) (by omega) (by rw [List.length_nil]; omega) hS ht hbi rfl trivial K
end M27
