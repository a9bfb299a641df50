/-! THE REFERENCE'S METHODS, part 21: what nodes are at a time -/
def bAt0 (s : Int → Int) (t : Int) : Int := lastI (fun b => decide (s (11 + 33 * b) ≤ t)) (s 3)
/-- the block in which a time lies -/
def bAt (s : Int → Int) (t : Int) : Int := if bAt0 s t ≠ -9 ∧ s (11 + 33 * bAt0 s t + 1) ≠ -9 ∧ s (11 + 33 * bAt0 s t + 1) < t then -9 else bAt0 s t
def chN (s : Int → Int) (b t : Int) (w0 : Int → Int) : Nat → Int → Int
  | 0 => w0
  | i + 1 => if s (11 + 33 * b + 9 + 3 * (i : Int)) ≤ t then aup (chN s b t w0 i) (s (11 + 33 * b + 9 + 3 * (i : Int) + 1)) (s (11 + 33 * b + 9 + 3 * (i : Int) + 2)) else chN s b t w0 i
def chI (s : Int → Int) (b t : Int) (w0 : Int → Int) (i : Int) : Int → Int := chN s b t w0 i.toNat
theorem chI_s {s : Int → Int} {b t : Int} {w0 : Int → Int} {i : Int} (h : 0 ≤ i) : chI s b t w0 (i + 1) = if s (11 + 33 * b + 9 + 3 * i) ≤ t then aup (chI s b t w0 i) (s (11 + 33 * b + 9 + 3 * i + 1)) (s (11 + 33 * b + 9 + 3 * i + 2)) else chI s b t w0 i := by
  unfold chI
  rw [show (i + 1).toNat = i.toNat + 1 by omega]
  show (if s (11 + 33 * b + 9 + 3 * (i.toNat : Int)) ≤ t then _ else _) = _
  rw [show ((i.toNat : Nat) : Int) = i by omega]
theorem chI_r {s : Int → Int} {b t : Int} {w0 : Int → Int} (hs : ∀ j, inr (s j)) (hw : ∀ j, inr (w0 j)) (i : Int) : ∀ j, inr (chI s b t w0 i j) := by
  unfold chI
  generalize i.toNat = n
  induction n with
  | zero => exact hw
  | succ n ih =>
    unfold chN
    split
    · exact aup_r ih (hs _)
    · exact ih
theorem chI_c {s : Int → Int} {b t : Int} {w0 w1 : Int → Int} {m : Int} (h : ∀ j, 0 ≤ j → j < m → w0 j = w1 j) (i : Int) : ∀ j, 0 ≤ j → j < m → chI s b t w0 i j = chI s b t w1 i j := by
  unfold chI
  generalize i.toNat = n
  induction n with
  | zero => exact h
  | succ n ih =>
    intro j h1 h2
    unfold chN
    split
    · unfold aup; split
      · rfl
      · exact ih j h1 h2
    · exact ih j h1 h2
/-- what wires are at a time -/
def fr0 (s : Int → Int) (b : Int) : Int → Int := fun w => if b = -9 then -7 else s (11 + 33 * b + 3 + w)
def wvAt (s : Int → Int) (t : Int) : Int → Int := if bAt s t = -9 then fun _ => -7 else chI s (bAt s t) t (fr0 s (bAt s t)) (s (11 + 33 * bAt s t + 2))
/-- what a node is at a time -/
def nAt (g : MG) (t n : Int) : Int := nv g (wvAt (g 9) t) n
def s3 (g : MG) (W F S : Int → Int) : MG := gset (gset (gset g 38 W) 36 F) 37 S
theorem s3_ne {g : MG} {W F S : Int → Int} {k : Nat} (h : k < 36 ∨ 38 < k) : s3 g W F S k = g k := by
  unfold s3; rw [gset_ne (by omega), gset_ne (by omega), gset_ne (by omega)]
theorem s3_up {g : MG} {W F S : Int → Int} {k : Nat} {i v : Int} (h : k < 36 ∨ 38 < k) : gup (s3 g W F S) k i v = s3 (gup g k i v) W F S := by
  funext j
  by_cases hj : j = k
  · subst hj; rw [s3_ne h, gup_k, gup_k, s3_ne h]
  · rw [gup_ne hj]
    by_cases h2 : j < 36 ∨ 38 < j
    · rw [s3_ne h2, s3_ne h2, gup_ne hj]
    · rcases (show j = 36 ∨ j = 37 ∨ j = 38 by omega) with rfl | rfl | rfl <;> rfl
theorem s3_s3 {g : MG} {W F S W' F' S' : Int → Int} : s3 (s3 g W F S) W' F' S' = s3 g W' F' S' := by
  funext j
  by_cases h2 : j < 36 ∨ 38 < j
  · rw [s3_ne h2, s3_ne h2, s3_ne h2]
  · rcases (show j = 36 ∨ j = 37 ∨ j = 38 by omega) with rfl | rfl | rfl <;> rfl
theorem s3_r {g : MG} {W F S : Int → Int} (h : Rng g) (hW : ∀ j, inr (W j)) (hF : ∀ j, inr (F j)) (hS : ∀ j, inr (S j)) : Rng (s3 g W F S) := ((h.set hW).set hF).set hS
theorem s3_self {g : MG} : s3 g (g 38) (g 36) (g 37) = g := by
  unfold s3
  rw [gset_self]
  show gset (gset g 36 (g 36)) 37 (g 37) = g
  rw [gset_self, gset_self]
theorem bAt_in {s : Int → Int} {t : Int} (h : 0 ≤ s 3) : bAt s t = -9 ∨ (0 ≤ bAt s t ∧ bAt s t < s 3) := by
  unfold bAt
  split
  · exact Or.inl rfl
  · rcases lastI_in (p := fun b => decide (s (11 + 33 * b) ≤ t)) h with h1 | ⟨h1, h3, -⟩
    · exact Or.inl h1
    · exact Or.inr ⟨h1, h3⟩
section M21
variable {E : Ev} {am : Nat} {B : Nat → Nat} {h0 h : AH} {g : MG} {Q : Value → AH → Prop} {X : Nat → AH → Prop}
theorem c_X7_blockAt (hB : MB am B) (hr_g : Rng g) {t : Int} (ht : inr t) (h3 : 0 ≤ g 9 3 ∧ g 9 3 ≤ 6) (K : Q (vI (bAt (g 9) t)) (mkM am B h0 g)) : V E mX7_blockAt 2 0 0 [some (.ref am), some (vI t), none, none] [] (mkM am B h0 g) Q X := by
  have hb0 : bAt0 (g 9) t = -9 ∨ (0 ≤ bAt0 (g 9) t ∧ bAt0 (g 9) t < g 9 3) := by
    rcases lastI_in (p := fun b => decide (g 9 (11 + 33 * b) ≤ t)) h3.1 with h1 | ⟨h1, h2, -⟩
    · exact Or.inl h1
    · exact Or.inr ⟨h1, h2⟩
  have L2 : ∀ v3, V E mX7_blockAt 2 0 40 [some (.ref am), some (vI t), some (vI (bAt0 (g 9) t)), v3] [] (mkM am B h0 g) Q X := by
    intro v3
    unfold bAt at K
    generalize bAt0 (g 9) t = f at *
    by_cases c : f ≠ -9 ∧ g 9 (11 + 33 * f + 1) ≠ -9 ∧ g 9 (11 + 33 * f + 1) < t
    · rw [if_pos c] at K
      refine V_iload_n dX7_blockAt_40 rfl ?_
      refine V_bipush dX7_blockAt_41 (by decide) ?_
      refine V_icmp_eq 81 dX7_blockAt_43 (by decide) (by first | omega | exact hr_g _ _ | decide) (by first | omega | exact hr_g _ _ | decide) (fun c_43 => by exfalso; omega) (fun c_43 => ?_)
      refine V_aload_n dX7_blockAt_46 rfl ?_
      refine VM_geta 9 dX7_blockAt_47 q2615 (by decide) rfl ?_
      refine V_iload_n dX7_blockAt_50 rfl ?_
      refine VS_c1 (M' := mX7_block0) okX7_block0 dX7_blockAt_51 q2603 rfl rfl (Nat.le_of_ble_eq_true rfl) (d' := 1) (b1 := 0) (by decide) (by decide) (c_X7_block0 ?_)
      refine V_iconst dX7_blockAt_54 ?_
      refine V_iadd dX7_blockAt_55 ?_
      refine VM_ialdE 9 (g 9 ((11 + 33 * f) + 1)) hB dX7_blockAt_56 mar9 rfl (by first | omega | (simp [gup, aup]; omega)) (by show _ < (209 : Int); first | omega | (simp [gup, aup]; omega)) (by decide) rfl ?_
      refine V_bipush dX7_blockAt_57 (by decide) ?_
      refine V_icmp_eq 81 dX7_blockAt_59 (by decide) (by first | omega | exact hr_g _ _ | decide) (by first | omega | exact hr_g _ _ | decide) (fun c_59 => by exfalso; omega) (fun c_59 => ?_)
      refine V_aload_n dX7_blockAt_62 rfl ?_
      refine VM_geta 9 dX7_blockAt_63 q2615 (by decide) rfl ?_
      refine V_iload_n dX7_blockAt_66 rfl ?_
      refine VS_c1 (M' := mX7_block0) okX7_block0 dX7_blockAt_67 q2603 rfl rfl (Nat.le_of_ble_eq_true rfl) (d' := 1) (b1 := 0) (by decide) (by decide) (c_X7_block0 ?_)
      refine V_iconst dX7_blockAt_70 ?_
      refine V_iadd dX7_blockAt_71 ?_
      refine VM_ialdE 9 (g 9 ((11 + 33 * f) + 1)) hB dX7_blockAt_72 mar9 rfl (by first | omega | (simp [gup, aup]; omega)) (by show _ < (209 : Int); first | omega | (simp [gup, aup]; omega)) (by decide) rfl ?_
      refine V_iload_n dX7_blockAt_73 rfl ?_
      refine V_icmp_ge 81 dX7_blockAt_74 (by decide) (by first | omega | exact hr_g _ _ | decide) (by first | omega | exact hr_g _ _ | decide) (fun c_74 => by exfalso; omega) (fun c_74 => ?_)
      refine V_iconst dX7_blockAt_77 ?_
      refine V_goto 82 dX7_blockAt_78 (by decide) ?_
      refine V_istore_n dX7_blockAt_82 (by decide) ?_
      refine V_iload_n dX7_blockAt_83 rfl ?_
      refine V_if_eq 92 dX7_blockAt_84 (by decide) (by first | omega | exact hr_g _ _ | decide) (fun c_84 => absurd c_84 (by decide)) (fun c_84 => ?_)
      refine V_bipush dX7_blockAt_87 (by decide) ?_
      refine V_goto 93 dX7_blockAt_89 (by decide) ?_
      exact V_iret dX7_blockAt_93 rfl (by exact K)
    · rw [if_neg c] at K
      refine V_iload_n dX7_blockAt_40 rfl ?_
      refine V_bipush dX7_blockAt_41 (by decide) ?_
      refine V_icmp_eq 81 dX7_blockAt_43 (by decide) (by first | omega | exact hr_g _ _ | decide) (by first | omega | exact hr_g _ _ | decide) (fun c_43 => ?_) (fun c_43 => ?_)
      · refine V_iconst dX7_blockAt_81 ?_
        refine V_istore_n dX7_blockAt_82 (by decide) ?_
        refine V_iload_n dX7_blockAt_83 rfl ?_
        refine V_if_eq 92 dX7_blockAt_84 (by decide) (by first | omega | exact hr_g _ _ | decide) (fun c_84 => ?_) (fun c_84 => absurd c_84 (by decide))
        refine V_iload_n dX7_blockAt_92 rfl ?_
        exact V_iret dX7_blockAt_93 rfl (by exact K)
      · refine V_aload_n dX7_blockAt_46 rfl ?_
        refine VM_geta 9 dX7_blockAt_47 q2615 (by decide) rfl ?_
        refine V_iload_n dX7_blockAt_50 rfl ?_
        refine VS_c1 (M' := mX7_block0) okX7_block0 dX7_blockAt_51 q2603 rfl rfl (Nat.le_of_ble_eq_true rfl) (d' := 1) (b1 := 0) (by decide) (by decide) (c_X7_block0 ?_)
        refine V_iconst dX7_blockAt_54 ?_
        refine V_iadd dX7_blockAt_55 ?_
        refine VM_ialdE 9 (g 9 ((11 + 33 * f) + 1)) hB dX7_blockAt_56 mar9 rfl (by first | omega | (simp [gup, aup]; omega)) (by show _ < (209 : Int); first | omega | (simp [gup, aup]; omega)) (by decide) rfl ?_
        refine V_bipush dX7_blockAt_57 (by decide) ?_
        refine V_icmp_eq 81 dX7_blockAt_59 (by decide) (by first | omega | exact hr_g _ _ | decide) (by first | omega | exact hr_g _ _ | decide) (fun c_59 => ?_) (fun c_59 => ?_)
        · refine V_iconst dX7_blockAt_81 ?_
          refine V_istore_n dX7_blockAt_82 (by decide) ?_
          refine V_iload_n dX7_blockAt_83 rfl ?_
          refine V_if_eq 92 dX7_blockAt_84 (by decide) (by first | omega | exact hr_g _ _ | decide) (fun c_84 => ?_) (fun c_84 => absurd c_84 (by decide))
          refine V_iload_n dX7_blockAt_92 rfl ?_
          exact V_iret dX7_blockAt_93 rfl (by exact K)
        · refine V_aload_n dX7_blockAt_62 rfl ?_
          refine VM_geta 9 dX7_blockAt_63 q2615 (by decide) rfl ?_
          refine V_iload_n dX7_blockAt_66 rfl ?_
          refine VS_c1 (M' := mX7_block0) okX7_block0 dX7_blockAt_67 q2603 rfl rfl (Nat.le_of_ble_eq_true rfl) (d' := 1) (b1 := 0) (by decide) (by decide) (c_X7_block0 ?_)
          refine V_iconst dX7_blockAt_70 ?_
          refine V_iadd dX7_blockAt_71 ?_
          refine VM_ialdE 9 (g 9 ((11 + 33 * f) + 1)) hB dX7_blockAt_72 mar9 rfl (by first | omega | (simp [gup, aup]; omega)) (by show _ < (209 : Int); first | omega | (simp [gup, aup]; omega)) (by decide) rfl ?_
          refine V_iload_n dX7_blockAt_73 rfl ?_
          refine V_icmp_ge 81 dX7_blockAt_74 (by decide) (by first | omega | exact hr_g _ _ | decide) (by first | omega | exact hr_g _ _ | decide) (fun c_74 => ?_) (fun c_74 => ?_)
          · refine V_iconst dX7_blockAt_81 ?_
            refine V_istore_n dX7_blockAt_82 (by decide) ?_
            refine V_iload_n dX7_blockAt_83 rfl ?_
            refine V_if_eq 92 dX7_blockAt_84 (by decide) (by first | omega | exact hr_g _ _ | decide) (fun c_84 => ?_) (fun c_84 => absurd c_84 (by decide))
            refine V_iload_n dX7_blockAt_92 rfl ?_
            exact V_iret dX7_blockAt_93 rfl (by exact K)
          · exfalso; omega
  have L1 : V E mX7_blockAt 2 0 5 [some (.ref am), some (vI t), some (vI (lastI (fun b => decide (g 9 (11 + 33 * b) ≤ t)) 0)), some (vI 0)] [] (mkM am B h0 g) Q X := by
    refine loop_upI (P := fun i => V E mX7_blockAt 2 0 5 [some (.ref am), some (vI t), some (vI (lastI (fun b => decide (g 9 (11 + 33 * b) ≤ t)) i)), some (vI i)] [] (mkM am B h0 g) Q X) 0 (g 9 3) (fun i h1 h2 ih => ?_) h3.1
    by_cases hi : i = g 9 3
    · subst hi
      refine V_iload_n dX7_blockAt_5 rfl ?_
      refine V_aload_n dX7_blockAt_6 rfl ?_
      refine VM_geta 9 dX7_blockAt_7 q2615 (by decide) rfl ?_
      refine V_iconst dX7_blockAt_10 ?_
      refine VM_ialdE 9 (g 9 3) hB dX7_blockAt_11 mar9 rfl (by first | omega | (simp [gup, aup]; omega)) (by show _ < (209 : Int); first | omega | (simp [gup, aup]; omega)) (by decide) rfl ?_
      refine V_icmp_ge 40 dX7_blockAt_12 (by decide) (by first | omega | exact hr_g _ _ | decide) (by first | omega | exact hr_g _ _ | decide) (fun c_12 => ?_) (fun c_12 => by exfalso; omega)
      exact L2 _
    · have ih := ih (by omega)
      rw [lastI_s h1] at ih
      generalize lastI (fun b => decide (g 9 (11 + 33 * b) ≤ t)) i = f at *
      by_cases c : g 9 (11 + 33 * i) ≤ t
      · rw [if_pos (by simpa using c)] at ih
        refine V_iload_n dX7_blockAt_5 rfl ?_
        refine V_aload_n dX7_blockAt_6 rfl ?_
        refine VM_geta 9 dX7_blockAt_7 q2615 (by decide) rfl ?_
        refine V_iconst dX7_blockAt_10 ?_
        refine VM_ialdE 9 (g 9 3) hB dX7_blockAt_11 mar9 rfl (by first | omega | (simp [gup, aup]; omega)) (by show _ < (209 : Int); first | omega | (simp [gup, aup]; omega)) (by decide) rfl ?_
        refine V_icmp_ge 40 dX7_blockAt_12 (by decide) (by first | omega | exact hr_g _ _ | decide) (by first | omega | exact hr_g _ _ | decide) (fun c_12 => by exfalso; omega) (fun c_12 => ?_)
        refine V_aload_n dX7_blockAt_15 rfl ?_
        refine VM_geta 9 dX7_blockAt_16 q2615 (by decide) rfl ?_
        refine V_iload_n dX7_blockAt_19 rfl ?_
        refine VS_c1 (M' := mX7_block0) okX7_block0 dX7_blockAt_20 q2603 rfl rfl (Nat.le_of_ble_eq_true rfl) (d' := 1) (b1 := 0) (by decide) (by decide) (c_X7_block0 ?_)
        refine VM_ialdE 9 (g 9 (11 + 33 * i)) hB dX7_blockAt_23 mar9 rfl (by first | omega | (simp [gup, aup]; omega)) (by show _ < (209 : Int); first | omega | (simp [gup, aup]; omega)) (by decide) rfl ?_
        refine V_iload_n dX7_blockAt_24 rfl ?_
        refine V_icmp_gt 32 dX7_blockAt_25 (by decide) (by first | omega | exact hr_g _ _ | decide) (by first | omega | exact hr_g _ _ | decide) (fun c_25 => by exfalso; omega) (fun c_25 => ?_)
        refine V_iload_n dX7_blockAt_28 rfl ?_
        refine V_goto 33 dX7_blockAt_29 (by decide) ?_
        refine V_istore_n dX7_blockAt_33 (by decide) ?_
        refine V_iinc dX7_blockAt_34 rfl (by decide) ?_
        refine V_goto 5 dX7_blockAt_37 (by decide) ?_
        exact ih
      · rw [if_neg (by simpa using c)] at ih
        refine V_iload_n dX7_blockAt_5 rfl ?_
        refine V_aload_n dX7_blockAt_6 rfl ?_
        refine VM_geta 9 dX7_blockAt_7 q2615 (by decide) rfl ?_
        refine V_iconst dX7_blockAt_10 ?_
        refine VM_ialdE 9 (g 9 3) hB dX7_blockAt_11 mar9 rfl (by first | omega | (simp [gup, aup]; omega)) (by show _ < (209 : Int); first | omega | (simp [gup, aup]; omega)) (by decide) rfl ?_
        refine V_icmp_ge 40 dX7_blockAt_12 (by decide) (by first | omega | exact hr_g _ _ | decide) (by first | omega | exact hr_g _ _ | decide) (fun c_12 => by exfalso; omega) (fun c_12 => ?_)
        refine V_aload_n dX7_blockAt_15 rfl ?_
        refine VM_geta 9 dX7_blockAt_16 q2615 (by decide) rfl ?_
        refine V_iload_n dX7_blockAt_19 rfl ?_
        refine VS_c1 (M' := mX7_block0) okX7_block0 dX7_blockAt_20 q2603 rfl rfl (Nat.le_of_ble_eq_true rfl) (d' := 1) (b1 := 0) (by decide) (by decide) (c_X7_block0 ?_)
        refine VM_ialdE 9 (g 9 (11 + 33 * i)) hB dX7_blockAt_23 mar9 rfl (by first | omega | (simp [gup, aup]; omega)) (by show _ < (209 : Int); first | omega | (simp [gup, aup]; omega)) (by decide) rfl ?_
        refine V_iload_n dX7_blockAt_24 rfl ?_
        refine V_icmp_gt 32 dX7_blockAt_25 (by decide) (by first | omega | exact hr_g _ _ | decide) (by first | omega | exact hr_g _ _ | decide) (fun c_25 => ?_) (fun c_25 => by exfalso; omega)
        refine V_iload_n dX7_blockAt_32 rfl ?_
        refine V_istore_n dX7_blockAt_33 (by decide) ?_
        refine V_iinc dX7_blockAt_34 rfl (by decide) ?_
        refine V_goto 5 dX7_blockAt_37 (by decide) ?_
        exact ih
  refine V_bipush dX7_blockAt_0 (by decide) ?_
  refine V_istore_n dX7_blockAt_2 (by decide) ?_
  refine V_iconst dX7_blockAt_3 ?_
  refine V_istore_n dX7_blockAt_4 (by decide) ?_
  exact L1
theorem c_la50 (hB : MB am B) (hr_g : Rng g) {t b : Int} {v4 : Option Value} (ht : inr t) (hb : BI g) {c : Int} (hw : WI c (g 9)) (hbb : b = -9 ∨ (0 ≤ b ∧ b < g 9 3)) (K : ∀ W F S, W = (if b = -9 then g 38 else chI (g 9) b t (g 38) (g 9 (11 + 33 * b + 2))) → (∀ j, 0 ≤ j → j < g 1 0 → F j = nv g W j) → (∀ j, inr (W j)) → (∀ j, inr (F j)) → (∀ j, inr (S j)) → Q .null (mkM am B h0 (s3 g W F S))) : V E mX7_laysAt 4 0 52 [some (.ref am), some (vI t), some (vI b), some (vI 0), v4] [] (mkM am B h0 g) Q X := by
  obtain ⟨w0, w1, w2, w3, w4, w5, w6⟩ := hw
  have hend : ∀ W, (∀ j, inr (W j)) → W = (if b = -9 then g 38 else chI (g 9) b t (g 38) (g 9 (11 + 33 * b + 2))) → ∀ v3 v4, V E mX7_laysAt 4 0 126 [some (.ref am), some (vI t), some (vI b), v3, v4] [] (mkM am B h0 (gset g 38 W)) Q X := by
    intro W hW hWe v3 v4
    have hrA : Rng (gset g 38 W) := hr_g.set hW
    have hbA : BI (gset g 38 W) := hb.same (fun k hk => gset_ne (by omega))
    refine V_aload_n dX7_laysAt_126 rfl ?_
    refine VM_v0 (M' := mX7_laysNodes) okX7_laysNodes rfl dX7_laysAt_127 q2876 rfl rfl (Nat.le_of_ble_eq_true rfl) (d' := 3) (b1 := 0) (by decide) (by decide) (c_X7_laysNodes' hB hrA hbA (fun F S hF hFr hSr => ?_))
    exact V_vret dX7_laysAt_130 rfl (by exact K W F S hWe (fun j h1 h2 => (hF j h1 h2).trans (nv_same hb (fun k hk => gset_ne (by omega)) h1 h2)) hW hFr hSr)
  rcases hbb with hb9 | hbb
  · subst hb9
    have e := hend (g 38) (hr_g 38) (by rw [if_pos rfl])
    rw [gset_self] at e
    refine V_iload_n dX7_laysAt_52 rfl ?_
    refine V_bipush dX7_laysAt_53 (by decide) ?_
    refine V_icmp_eq 126 dX7_laysAt_55 (by decide) (by first | omega | exact hr_g _ _ | decide) (by first | omega | exact hr_g _ _ | decide) (fun c_55 => ?_) (fun c_55 => absurd c_55 (by decide))
    exact e _ _
  · have hbn : b ≠ -9 := by omega
    have wb := w6 b hbb.1 hbb.2
    have wb2 := wb.2.2.1
    rw [if_neg hbn] at hend
    have L : ∀ v4, V E mX7_laysAt 4 0 52 [some (.ref am), some (vI t), some (vI b), some (vI 0), v4] [] (mkM am B h0 (gset g 38 (chI (g 9) b t (g 38) 0))) Q X := by
      refine loop_upI (P := fun i => ∀ v4, V E mX7_laysAt 4 0 52 [some (.ref am), some (vI t), some (vI b), some (vI i), v4] [] (mkM am B h0 (gset g 38 (chI (g 9) b t (g 38) i))) Q X) 0 (g 9 (11 + 33 * b + 2)) (fun i h1 h2 ih => ?_) wb2.1
      intro v4
      have hrC := chI_r (b := b) (t := t) (hr_g 9) (hr_g 38) i
      by_cases hi : i = g 9 (11 + 33 * b + 2)
      · subst hi
        have e := hend _ hrC rfl
        refine V_iload_n dX7_laysAt_52 rfl ?_
        refine V_bipush dX7_laysAt_53 (by decide) ?_
        refine V_icmp_eq 126 dX7_laysAt_55 (by decide) (by first | omega | exact hr_g _ _ | decide) (by first | omega | exact hr_g _ _ | decide) (fun c_55 => by exfalso; omega) (fun c_55 => ?_)
        refine V_iload_n dX7_laysAt_58 rfl ?_
        refine V_aload_n dX7_laysAt_59 rfl ?_
        refine VM_geta 9 dX7_laysAt_60 q2615 (by decide) rfl ?_
        refine V_iload_n dX7_laysAt_63 rfl ?_
        refine VS_c1 (M' := mX7_block0) okX7_block0 dX7_laysAt_64 q2603 rfl rfl (Nat.le_of_ble_eq_true rfl) (d' := 1) (b1 := 0) (by decide) (by decide) (c_X7_block0 ?_)
        refine V_iconst dX7_laysAt_67 ?_
        refine V_iadd dX7_laysAt_68 ?_
        refine VM_ialdE 9 (g 9 ((11 + 33 * b) + 2)) hB dX7_laysAt_69 mar9 rfl (by first | omega | (simp [gup, aup]; omega)) (by show _ < (209 : Int); first | omega | (simp [gup, aup]; omega)) (by decide) rfl ?_
        refine V_icmp_ge 126 dX7_laysAt_70 (by decide) (by first | omega | exact hr_g _ _ | decide) (by first | omega | exact hr_g _ _ | decide) (fun c_70 => ?_) (fun c_70 => by exfalso; omega)
        exact e _ _
      · have ih := ih (by omega)
        rw [chI_s h1] at ih
        have wc := wb.2.2.2.2 i h1 (by omega)
        generalize chI (g 9) b t (g 38) i = W at *
        have hrA : Rng (gset g 38 W) := hr_g.set hrC
        by_cases c : g 9 (11 + 33 * b + 9 + 3 * i) ≤ t
        · rw [if_pos c] at ih
          refine V_iload_n dX7_laysAt_52 rfl ?_
          refine V_bipush dX7_laysAt_53 (by decide) ?_
          refine V_icmp_eq 126 dX7_laysAt_55 (by decide) (by first | omega | exact hr_g _ _ | decide) (by first | omega | exact hr_g _ _ | decide) (fun c_55 => by exfalso; omega) (fun c_55 => ?_)
          refine V_iload_n dX7_laysAt_58 rfl ?_
          refine V_aload_n dX7_laysAt_59 rfl ?_
          refine VM_geta 9 dX7_laysAt_60 q2615 (by decide) rfl ?_
          refine V_iload_n dX7_laysAt_63 rfl ?_
          refine VS_c1 (M' := mX7_block0) okX7_block0 dX7_laysAt_64 q2603 rfl rfl (Nat.le_of_ble_eq_true rfl) (d' := 1) (b1 := 0) (by decide) (by decide) (c_X7_block0 ?_)
          refine V_iconst dX7_laysAt_67 ?_
          refine V_iadd dX7_laysAt_68 ?_
          refine VM_ialdE 9 (g 9 ((11 + 33 * b) + 2)) hB dX7_laysAt_69 mar9 rfl (by first | omega | (simp [gup, aup]; omega)) (by show _ < (209 : Int); first | omega | (simp [gup, aup]; omega)) (by decide) rfl ?_
          refine V_icmp_ge 126 dX7_laysAt_70 (by decide) (by first | omega | exact hr_g _ _ | decide) (by first | omega | exact hr_g _ _ | decide) (fun c_70 => by exfalso; omega) (fun c_70 => ?_)
          refine V_iload_n dX7_laysAt_73 rfl ?_
          refine VS_c1 (M' := mX7_block0) okX7_block0 dX7_laysAt_74 q2603 rfl rfl (Nat.le_of_ble_eq_true rfl) (d' := 1) (b1 := 0) (by decide) (by decide) (c_X7_block0 ?_)
          refine V_bipush dX7_laysAt_77 (by decide) ?_
          refine V_iadd dX7_laysAt_79 ?_
          refine V_iconst dX7_laysAt_80 ?_
          refine V_iload_n dX7_laysAt_81 rfl ?_
          refine V_imul dX7_laysAt_82 ?_
          refine V_iadd dX7_laysAt_83 ?_
          refine V_istore dX7_laysAt_84 (by decide) ?_
          refine V_aload_n dX7_laysAt_86 rfl ?_
          refine VM_geta 9 dX7_laysAt_87 q2615 (by decide) rfl ?_
          refine V_iload dX7_laysAt_90 rfl ?_
          refine VM_ialdE 9 (g 9 (((11 + 33 * b) + 9) + (3 * i))) hB dX7_laysAt_92 mar9 rfl (by first | omega | (simp [gup, aup]; omega)) (by show _ < (209 : Int); first | omega | (simp [gup, aup]; omega)) (by decide) rfl ?_
          refine V_iload_n dX7_laysAt_93 rfl ?_
          refine V_icmp_gt 120 dX7_laysAt_94 (by decide) (by first | omega | exact hr_g _ _ | decide) (by first | omega | exact hr_g _ _ | decide) (fun c_94 => by exfalso; omega) (fun c_94 => ?_)
          refine V_aload_n dX7_laysAt_97 rfl ?_
          refine VM_geta 38 dX7_laysAt_98 q2644 (by decide) rfl ?_
          refine V_aload_n dX7_laysAt_101 rfl ?_
          refine VM_geta 9 dX7_laysAt_102 q2615 (by decide) rfl ?_
          refine V_iload dX7_laysAt_105 rfl ?_
          refine V_iconst dX7_laysAt_107 ?_
          refine V_iadd dX7_laysAt_108 ?_
          refine VM_ialdE 9 (g 9 ((((11 + 33 * b) + 9) + (3 * i)) + 1)) hB dX7_laysAt_109 mar9 rfl (by first | omega | (simp [gup, aup]; omega)) (by show _ < (209 : Int); first | omega | (simp [gup, aup]; omega)) (by decide) rfl ?_
          refine V_aload_n dX7_laysAt_110 rfl ?_
          refine VM_geta 9 dX7_laysAt_111 q2615 (by decide) rfl ?_
          refine V_iload dX7_laysAt_114 rfl ?_
          refine V_iconst dX7_laysAt_116 ?_
          refine V_iadd dX7_laysAt_117 ?_
          refine VM_ialdE 9 (g 9 ((((11 + 33 * b) + 9) + (3 * i)) + 2)) hB dX7_laysAt_118 mar9 rfl (by first | omega | (simp [gup, aup]; omega)) (by show _ < (209 : Int); first | omega | (simp [gup, aup]; omega)) (by decide) rfl ?_
          refine VM_iast 38 hB dX7_laysAt_119 mar38 rfl mfa38 (by first | omega | (simp [gup, aup]; omega)) (by show _ < (6 : Int); first | omega | (simp [gup, aup]; omega)) (by decide) ?_
          refine V_iinc dX7_laysAt_120 rfl (by decide) ?_
          refine V_goto 52 dX7_laysAt_123 (by decide) ?_
          rw [gset_up]; exact ih _
        · rw [if_neg c] at ih
          refine V_iload_n dX7_laysAt_52 rfl ?_
          refine V_bipush dX7_laysAt_53 (by decide) ?_
          refine V_icmp_eq 126 dX7_laysAt_55 (by decide) (by first | omega | exact hr_g _ _ | decide) (by first | omega | exact hr_g _ _ | decide) (fun c_55 => by exfalso; omega) (fun c_55 => ?_)
          refine V_iload_n dX7_laysAt_58 rfl ?_
          refine V_aload_n dX7_laysAt_59 rfl ?_
          refine VM_geta 9 dX7_laysAt_60 q2615 (by decide) rfl ?_
          refine V_iload_n dX7_laysAt_63 rfl ?_
          refine VS_c1 (M' := mX7_block0) okX7_block0 dX7_laysAt_64 q2603 rfl rfl (Nat.le_of_ble_eq_true rfl) (d' := 1) (b1 := 0) (by decide) (by decide) (c_X7_block0 ?_)
          refine V_iconst dX7_laysAt_67 ?_
          refine V_iadd dX7_laysAt_68 ?_
          refine VM_ialdE 9 (g 9 ((11 + 33 * b) + 2)) hB dX7_laysAt_69 mar9 rfl (by first | omega | (simp [gup, aup]; omega)) (by show _ < (209 : Int); first | omega | (simp [gup, aup]; omega)) (by decide) rfl ?_
          refine V_icmp_ge 126 dX7_laysAt_70 (by decide) (by first | omega | exact hr_g _ _ | decide) (by first | omega | exact hr_g _ _ | decide) (fun c_70 => by exfalso; omega) (fun c_70 => ?_)
          refine V_iload_n dX7_laysAt_73 rfl ?_
          refine VS_c1 (M' := mX7_block0) okX7_block0 dX7_laysAt_74 q2603 rfl rfl (Nat.le_of_ble_eq_true rfl) (d' := 1) (b1 := 0) (by decide) (by decide) (c_X7_block0 ?_)
          refine V_bipush dX7_laysAt_77 (by decide) ?_
          refine V_iadd dX7_laysAt_79 ?_
          refine V_iconst dX7_laysAt_80 ?_
          refine V_iload_n dX7_laysAt_81 rfl ?_
          refine V_imul dX7_laysAt_82 ?_
          refine V_iadd dX7_laysAt_83 ?_
          refine V_istore dX7_laysAt_84 (by decide) ?_
          refine V_aload_n dX7_laysAt_86 rfl ?_
          refine VM_geta 9 dX7_laysAt_87 q2615 (by decide) rfl ?_
          refine V_iload dX7_laysAt_90 rfl ?_
          refine VM_ialdE 9 (g 9 (((11 + 33 * b) + 9) + (3 * i))) hB dX7_laysAt_92 mar9 rfl (by first | omega | (simp [gup, aup]; omega)) (by show _ < (209 : Int); first | omega | (simp [gup, aup]; omega)) (by decide) rfl ?_
          refine V_iload_n dX7_laysAt_93 rfl ?_
          refine V_icmp_gt 120 dX7_laysAt_94 (by decide) (by first | omega | exact hr_g _ _ | decide) (by first | omega | exact hr_g _ _ | decide) (fun c_94 => ?_) (fun c_94 => by exfalso; omega)
          refine V_iinc dX7_laysAt_120 rfl (by decide) ?_
          refine V_goto 52 dX7_laysAt_123 (by decide) ?_
          exact ih _
    have e0 : chI (g 9) b t (g 38) 0 = g 38 := rfl
    rw [e0, gset_self] at L
    exact L _
theorem c_X7_laysAt (hB : MB am B) (hr_g : Rng g) {t : Int} (ht : inr t) (hb : BI g) {c : Int} (hw : WI c (g 9)) (K : ∀ W F S, (∀ j, 0 ≤ j → j < g 1 0 → F j = nAt g t j) → (∀ j, inr (W j)) → (∀ j, inr (F j)) → (∀ j, inr (S j)) → Q .null (mkM am B h0 (s3 g W F S))) : V E mX7_laysAt 4 0 0 [some (.ref am), some (vI t), none, none, none] [] (mkM am B h0 g) Q X := by
  have w3 := hw.2.2.2.1
  have hbi := bAt_in (s := g 9) (t := t) (by omega)
  have hfr : ∀ j, inr (fr0 (g 9) (bAt (g 9) t) j) := fun j => by
    unfold fr0; split
    · decide
    · exact hr_g _ _
  have K' : ∀ W F S, W = (if bAt (g 9) t = -9 then acp (g 38) (fr0 (g 9) (bAt (g 9) t)) 0 6 0 else chI (g 9) (bAt (g 9) t) t (acp (g 38) (fr0 (g 9) (bAt (g 9) t)) 0 6 0) (g 9 (11 + 33 * bAt (g 9) t + 2))) → (∀ j, 0 ≤ j → j < g 1 0 → F j = nv g W j) → (∀ j, inr (W j)) → (∀ j, inr (F j)) → (∀ j, inr (S j)) → Q .null (mkM am B h0 (s3 g W F S)) := by
    intro W F S hW hF hWr hFr hSr
    refine K W F S (fun j h1 h2 => ?_) hWr hFr hSr
    rw [hF j h1 h2]
    unfold nAt
    refine nv_c hb (fun w w1 w2 => ?_) h1 h2
    rw [hW]
    unfold wvAt
    by_cases c9 : bAt (g 9) t = -9
    · rw [if_pos c9, if_pos c9]
      unfold acp fr0
      rw [if_pos (by omega), if_pos c9]
    · rw [if_neg c9, if_neg c9]
      refine chI_c (m := 6) (fun j j1 j2 => ?_) _ w w1 w2
      unfold acp
      rw [if_pos (by omega), Int.add_zero]
  obtain ⟨b, hbe⟩ : ∃ b, b = bAt (g 9) t := ⟨_, rfl⟩
  rw [← hbe] at hbi hfr K'
  have L : V E mX7_laysAt 4 0 8 [some (.ref am), some (vI t), some (vI b), some (vI 0), none] [] (mkM am B h0 (gset g 38 (acp (g 38) (fr0 (g 9) b) 0 0 0))) Q X := by
    refine loop_upI (P := fun i => V E mX7_laysAt 4 0 8 [some (.ref am), some (vI t), some (vI b), some (vI i), none] [] (mkM am B h0 (gset g 38 (acp (g 38) (fr0 (g 9) b) 0 i 0))) Q X) 0 6 (fun i h1 h2 ih => ?_) (by omega)
    have hrC := acp_r (lo := 0) (i := i) (m := 0) (hr_g 38) hfr
    have hrA : Rng (gset g 38 (acp (g 38) (fr0 (g 9) b) 0 i 0)) := hr_g.set hrC
    by_cases hi : i = 6
    · subst hi
      refine V_iload_n dX7_laysAt_8 rfl ?_
      refine V_bipush dX7_laysAt_9 (by decide) ?_
      refine V_icmp_ge 50 dX7_laysAt_11 (by decide) (by first | omega | exact hr_g _ _ | decide) (by first | omega | exact hr_g _ _ | decide) (fun c_11 => ?_) (fun c_11 => absurd c_11 (by decide))
      refine V_iconst dX7_laysAt_50 ?_
      refine V_istore_n dX7_laysAt_51 (by decide) ?_
      exact c_la50 hB hrA ht (hb.same (fun k hk => gset_ne (by omega))) (c := c) (by rw [gset_ne (by omega)]; exact hw) hbi (fun W F S q1 q2 q3 q4 q5 => by rw [show s3 (gset g 38 (acp (g 38) (fr0 (g 9) b) 0 6 0)) W F S = s3 g W F S from by unfold s3; rw [gset_gset]]; exact K' W F S q1 (fun j h1 h2 => (q2 j h1 h2).trans (nv_same hb (fun k hk => gset_ne (by omega)) h1 h2)) q3 q4 q5)
    · have ih := ih (by omega)
      rw [← acp_s h1, Int.add_zero] at ih
      have e : fr0 (g 9) b i = if b = -9 then -7 else g 9 (11 + 33 * b + 3 + i) := rfl
      generalize acp (g 38) (fr0 (g 9) b) 0 i 0 = W at *
      by_cases c9 : b = -9
      · rw [e, if_pos c9] at ih
        refine V_iload_n dX7_laysAt_8 rfl ?_
        refine V_bipush dX7_laysAt_9 (by decide) ?_
        refine V_icmp_ge 50 dX7_laysAt_11 (by decide) (by first | omega | exact hr_g _ _ | decide) (by first | omega | exact hr_g _ _ | decide) (fun c_11 => by exfalso; omega) (fun c_11 => ?_)
        refine V_aload_n dX7_laysAt_14 rfl ?_
        refine VM_geta 38 dX7_laysAt_15 q2644 (by decide) rfl ?_
        refine V_iload_n dX7_laysAt_18 rfl ?_
        refine V_iload_n dX7_laysAt_19 rfl ?_
        refine V_bipush dX7_laysAt_20 (by decide) ?_
        refine V_icmp_ne 30 dX7_laysAt_22 (by decide) (by first | omega | exact hr_g _ _ | decide) (by first | omega | exact hr_g _ _ | decide) (fun c_22 => by exfalso; omega) (fun c_22 => ?_)
        refine V_bipush dX7_laysAt_25 (by decide) ?_
        refine V_goto 43 dX7_laysAt_27 (by decide) ?_
        refine VM_iast 38 hB dX7_laysAt_43 mar38 rfl mfa38 (by first | omega | (simp [gup, aup]; omega)) (by show _ < (6 : Int); first | omega | (simp [gup, aup]; omega)) (by decide) ?_
        refine V_iinc dX7_laysAt_44 rfl (by decide) ?_
        refine V_goto 8 dX7_laysAt_47 (by decide) ?_
        rw [gset_up]; exact ih
      · rw [e, if_neg c9] at ih
        refine V_iload_n dX7_laysAt_8 rfl ?_
        refine V_bipush dX7_laysAt_9 (by decide) ?_
        refine V_icmp_ge 50 dX7_laysAt_11 (by decide) (by first | omega | exact hr_g _ _ | decide) (by first | omega | exact hr_g _ _ | decide) (fun c_11 => by exfalso; omega) (fun c_11 => ?_)
        refine V_aload_n dX7_laysAt_14 rfl ?_
        refine VM_geta 38 dX7_laysAt_15 q2644 (by decide) rfl ?_
        refine V_iload_n dX7_laysAt_18 rfl ?_
        refine V_iload_n dX7_laysAt_19 rfl ?_
        refine V_bipush dX7_laysAt_20 (by decide) ?_
        refine V_icmp_ne 30 dX7_laysAt_22 (by decide) (by first | omega | exact hr_g _ _ | decide) (by first | omega | exact hr_g _ _ | decide) (fun c_22 => ?_) (fun c_22 => by exfalso; omega)
        refine V_aload_n dX7_laysAt_30 rfl ?_
        refine VM_geta 9 dX7_laysAt_31 q2615 (by decide) rfl ?_
        refine V_iload_n dX7_laysAt_34 rfl ?_
        refine VS_c1 (M' := mX7_block0) okX7_block0 dX7_laysAt_35 q2603 rfl rfl (Nat.le_of_ble_eq_true rfl) (d' := 1) (b1 := 0) (by decide) (by decide) (c_X7_block0 ?_)
        refine V_iconst dX7_laysAt_38 ?_
        refine V_iadd dX7_laysAt_39 ?_
        refine V_iload_n dX7_laysAt_40 rfl ?_
        refine V_iadd dX7_laysAt_41 ?_
        refine VM_ialdE 9 (g 9 (((11 + 33 * b) + 3) + i)) hB dX7_laysAt_42 mar9 rfl (by first | omega | (simp [gup, aup]; omega)) (by show _ < (209 : Int); first | omega | (simp [gup, aup]; omega)) (by decide) rfl ?_
        refine VM_iast 38 hB dX7_laysAt_43 mar38 rfl mfa38 (by first | omega | (simp [gup, aup]; omega)) (by show _ < (6 : Int); first | omega | (simp [gup, aup]; omega)) (by decide) ?_
        refine V_iinc dX7_laysAt_44 rfl (by decide) ?_
        refine V_goto 8 dX7_laysAt_47 (by decide) ?_
        rw [gset_up]; exact ih
  rw [acp_0, gset_self] at L
  refine V_aload_n dX7_laysAt_0 rfl ?_
  refine V_iload_n dX7_laysAt_1 rfl ?_
  refine VM_c1 (M' := mX7_blockAt) okX7_blockAt rfl dX7_laysAt_2 q2939 rfl rfl (Nat.le_of_ble_eq_true rfl) (d' := 2) (b1 := 0) (by decide) (by decide) (c_X7_blockAt hB hr_g (by first | omega | exact hr_g _ _ | decide) (by omega) ?_)
  refine V_istore_n dX7_laysAt_5 (by decide) ?_
  refine V_iconst dX7_laysAt_6 ?_
  refine V_istore_n dX7_laysAt_7 (by decide) ?_
  rw [← hbe]; exact L
def aAt (g : MG) (n t : Int) : Int := if (0 ≤ n ∧ n < g 1 0) ∧ (0 ≤ t ∧ t ≤ g 9 0) then nAt g t n else -1
theorem c_X7_at (hB : MB am B) (hr_g : Rng g) {n t : Int} (hn : inr n) (ht : inr t) (hb : BI g) {c : Int} (hw : WI c (g 9)) (K : ∀ g', Sm g g' → Q (vI (aAt g n t)) (mkM am B h0 g')) : V E mX7_at 5 0 0 [some (.ref am), some (vI n), some (vI t)] [] (mkM am B h0 g) Q X := by
  have hb1 := hb.1
  unfold aAt at K
  have K0 := K g (Sm.rfl' hr_g)
  refine V_aload_n dX7_at_0 rfl ?_
  refine V_iload_n dX7_at_1 rfl ?_
  refine VM_c1 (M' := mX7_isNode) okX7_isNode rfl dX7_at_2 q2872 rfl rfl (Nat.le_of_ble_eq_true rfl) (d' := 2) (b1 := 0) (by decide) (by decide) (c_X7_isNode hB hr_g (by first | omega | exact hr_g _ _ | decide) (by first | omega | (simp [gup, aup]; omega)) (fun c_2 => ?_) (fun c_2 => ?_))
  · refine V_if_eq 16 dX7_at_5 (by decide) (by first | omega | exact hr_g _ _ | decide) (fun c_5 => absurd c_5 (by decide)) (fun c_5 => ?_)
    refine V_aload_n dX7_at_8 rfl ?_
    refine V_iload_n dX7_at_9 rfl ?_
    refine VM_c1 (M' := mX7_isTime) okX7_isTime rfl dX7_at_10 q2931 rfl rfl (Nat.le_of_ble_eq_true rfl) (d' := 2) (b1 := 0) (by decide) (by decide) (c_X7_isTime hB hr_g (by first | omega | exact hr_g _ _ | decide) (fun c_10 => ?_) (fun c_10 => ?_))
    · refine V_if_ne 18 dX7_at_13 (by decide) (by first | omega | exact hr_g _ _ | decide) (fun c_13 => ?_) (fun c_13 => absurd c_13 (by decide))
      refine V_aload_n dX7_at_18 rfl ?_
      refine V_iload_n dX7_at_19 rfl ?_
      refine VM_v1 (M' := mX7_laysAt) okX7_laysAt rfl dX7_at_20 q2935 rfl rfl (Nat.le_of_ble_eq_true rfl) (d' := 4) (b1 := 0) (by decide) (by decide) (c_X7_laysAt hB hr_g ht hb hw (fun W F S q1 q2 q3 q4 => ?_))
      refine V_aload_n dX7_at_23 rfl ?_
      refine VM_geta 36 dX7_at_24 q2642 (by decide) rfl ?_
      refine V_iload_n dX7_at_27 rfl ?_
      refine VM_ialdE 36 (((s3 g W F S)) 36 n) hB dX7_at_28 mar36 rfl (by first | omega | (simp [gup, aup]; omega)) (by show _ < (12 : Int); first | omega | (simp [gup, aup]; omega)) (by decide) rfl ?_
      exact V_iret dX7_at_29 rfl (by have q5 := q1 n (by omega) (by omega); rw [if_pos (by omega), ← q5] at K; exact K _ ((((Sm.rfl' hr_g).set (by omega) q2).set (by omega) q3).set (by omega) q4))
    · refine V_if_ne 18 dX7_at_13 (by decide) (by first | omega | exact hr_g _ _ | decide) (fun c_13 => absurd c_13 (by decide)) (fun c_13 => ?_)
      refine V_iconst dX7_at_16 ?_
      exact V_iret dX7_at_17 rfl (by rw [if_neg (by omega)] at K0; exact K0)
  · refine V_if_eq 16 dX7_at_5 (by decide) (by first | omega | exact hr_g _ _ | decide) (fun c_5 => ?_) (fun c_5 => absurd c_5 (by decide))
    refine V_iconst dX7_at_16 ?_
    exact V_iret dX7_at_17 rfl (by rw [if_neg (by omega)] at K0; exact K0)
end M21
