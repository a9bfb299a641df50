/-! THE REFERENCE'S METHODS, part 22: turns, lines -/
def tOf (s : Int → Int) (b t : Int) : Prop := (t = s (11 + 33 * b) ∨ (s (11 + 33 * b + 1) ≠ -9 ∧ t = s (11 + 33 * b + 1) + 1)) ∨ ∃ i, 0 ≤ i ∧ i < s (11 + 33 * b + 2) ∧ t = s (11 + 33 * b + 9 + 3 * i)
/-- a time at which something may become another one -/
def isT (s : Int → Int) (t : Int) : Prop := t = 0 ∨ ∃ b, 0 ≤ b ∧ b < s 3 ∧ tOf s b t
def TO (T : Int → Int) (R : Int → Prop) : Prop := (∀ j, inr (T j)) ∧ ∀ t, 0 ≤ t → t < 1002 → (T t = 0 ∨ T t = 1) ∧ (T t = 1 ↔ R t)
theorem TO.up {T : Int → Int} {R : Int → Prop} (h : TO T R) {v : Int} : TO (aup T v 1) (fun t => R t ∨ t = v) := by
  refine ⟨aup_r h.1 (by decide), fun t h1 h2 => ?_⟩
  have := h.2 t h1 h2
  by_cases c : t = v
  · subst c; rw [aup_eq]; exact ⟨Or.inr rfl, fun _ => Or.inr rfl, fun _ => rfl⟩
  · rw [aup_nn c]
    exact ⟨this.1, fun q => Or.inl (this.2.1 q), fun q => this.2.2 (q.resolve_right c)⟩
theorem TO.c {T : Int → Int} {R R' : Int → Prop} (h : TO T R) (e : ∀ t, R t ↔ R' t) : TO T R' := ⟨h.1, fun t h1 h2 => ⟨(h.2 t h1 h2).1, (h.2 t h1 h2).2.trans (e t)⟩⟩
theorem lastI_c {p q : Int → Bool} {n : Int} (h : ∀ k, 0 ≤ k → k < n → p k = q k) : lastI p n = lastI q n := by
  unfold lastI
  have : ∀ m : Nat, (m : Int) ≤ n → lastN p m = lastN q m := by
    intro m
    induction m with
    | zero => intro _; rfl
    | succ m ih =>
      intro hm
      unfold lastN
      rw [h m (by omega) (by omega), ih (by omega)]
  by_cases hn : 0 ≤ n
  · exact this n.toNat (by omega)
  · rw [show n.toNat = 0 by omega]; rfl
/-- where no turn is, all is as a time ago -/
theorem wvAt_s {s : Int → Int} {c : Int} (hw : WI c s) {t : Int} (h : ¬ isT s t) : wvAt s t = wvAt s (t - 1) := by
  obtain ⟨w0, w1, w2, w3, w4, w5, w6⟩ := hw
  have hb : ∀ b, 0 ≤ b → b < s 3 → ¬ tOf s b t := fun b h1 h2 h3 => h (Or.inr ⟨b, h1, h2, h3⟩)
  have e0 : bAt0 s t = bAt0 s (t - 1) := by
    unfold bAt0
    refine lastI_c (fun k h1 h2 => ?_)
    have : ¬ t = s (11 + 33 * k) := fun q => hb k h1 h2 (Or.inl (Or.inl q))
    by_cases c1 : s (11 + 33 * k) ≤ t
    · rw [decide_eq_true c1, decide_eq_true (by omega)]
    · rw [decide_eq_false c1, decide_eq_false (by omega)]
  have hbi := bAt_in (s := s) (t := t) (by omega)
  have h0 : bAt0 s t = -9 ∨ (0 ≤ bAt0 s t ∧ bAt0 s t < s 3) := by
    unfold bAt0
    rcases lastI_in (p := fun b => decide (s (11 + 33 * b) ≤ t)) (show 0 ≤ s 3 by omega) with h1 | ⟨h1, h2, -⟩
    · exact Or.inl h1
    · exact Or.inr ⟨h1, h2⟩
  have e1 : bAt s t = bAt s (t - 1) := by
    unfold bAt
    rw [← e0]
    rcases h0 with q | q
    · rw [if_neg (by omega), if_neg (by omega)]
    · have : ¬ (s (11 + 33 * bAt0 s t + 1) ≠ -9 ∧ t = s (11 + 33 * bAt0 s t + 1) + 1) := fun z => hb _ q.1 q.2 (Or.inl (Or.inr z))
      by_cases c1 : bAt0 s t ≠ -9 ∧ s (11 + 33 * bAt0 s t + 1) ≠ -9 ∧ s (11 + 33 * bAt0 s t + 1) < t
      · rw [if_pos c1, if_pos (by omega)]
      · rw [if_neg c1, if_neg (by omega)]
  unfold wvAt
  rw [← e1]
  rcases hbi with q | q
  · rw [if_pos q, if_pos q]
  · rw [if_neg (by omega), if_neg (by omega)]
    unfold chI
    have : ∀ n : Nat, (n : Int) ≤ s (11 + 33 * bAt s t + 2) → chN s (bAt s t) t (fr0 s (bAt s t)) n = chN s (bAt s t) (t - 1) (fr0 s (bAt s t)) n := by
      intro n
      induction n with
      | zero => intro _; rfl
      | succ n ih =>
        intro hn
        unfold chN
        rw [ih (by omega)]
        have : ¬ t = s (11 + 33 * bAt s t + 9 + 3 * (n : Int)) := fun z => hb _ q.1 q.2 (Or.inr ⟨n, by omega, by omega, z⟩)
        by_cases c1 : s (11 + 33 * bAt s t + 9 + 3 * (n : Int)) ≤ t
        · rw [if_pos c1, if_pos (by omega)]
        · rw [if_neg c1, if_neg (by omega)]
    have hm := (w6 _ q.1 q.2).2.2.1
    exact this _ (by omega)
section M22
variable {E : Ev} {am : Nat} {B : Nat → Nat} {h0 h : AH} {g : MG} {Q : Value → AH → Prop} {X : Nat → AH → Prop}
theorem c_lt90 (hB : MB am B) (hr_g : Rng g) {b : Int} {c : Int} (hw : WI c (g 9)) (hb : 0 ≤ b ∧ b < g 9 3) {R : Int → Prop} {T : Int → Int} (hT : TO T R) (K : ∀ T' v3, TO T' (fun t => R t ∨ ∃ i, 0 ≤ i ∧ i < g 9 (11 + 33 * b + 2) ∧ t = g 9 (11 + 33 * b + 9 + 3 * i)) → V E mX7_laysTurns 2 0 127 [some (.ref am), some (vI b), some (vI (11 + 33 * b)), v3] [] (mkM am B h0 (gset g 39 T')) Q X) : V E mX7_laysTurns 2 0 90 [some (.ref am), some (vI b), some (vI (11 + 33 * b)), some (vI 0)] [] (mkM am B h0 (gset g 39 T)) Q X := by
  obtain ⟨w0, w1, w2, w3, w4, w5, w6⟩ := hw
  have wb := w6 b hb.1 hb.2
  have wb2 := wb.2.2.1
  have wb0 := wb.1
  have L : ∀ T', TO T' (fun t => R t ∨ ∃ i, 0 ≤ i ∧ i < 0 ∧ t = g 9 (11 + 33 * b + 9 + 3 * i)) → V E mX7_laysTurns 2 0 90 [some (.ref am), some (vI b), some (vI (11 + 33 * b)), some (vI 0)] [] (mkM am B h0 (gset g 39 T')) Q X := by
    refine loop_upI (P := fun k => ∀ T', TO T' (fun t => R t ∨ ∃ i, 0 ≤ i ∧ i < k ∧ t = g 9 (11 + 33 * b + 9 + 3 * i)) → V E mX7_laysTurns 2 0 90 [some (.ref am), some (vI b), some (vI (11 + 33 * b)), some (vI k)] [] (mkM am B h0 (gset g 39 T')) Q X) 0 (g 9 (11 + 33 * b + 2)) (fun k h1 h2 ih => ?_) wb2.1
    intro T' hT'
    have hrA : Rng (gset g 39 T') := hr_g.set hT'.1
    by_cases hk : k = g 9 (11 + 33 * b + 2)
    · subst hk
      refine V_iload_n dX7_laysTurns_90 rfl ?_
      refine V_aload_n dX7_laysTurns_91 rfl ?_
      refine VM_geta 9 dX7_laysTurns_92 q2615 (by decide) rfl ?_
      refine V_iload_n dX7_laysTurns_95 rfl ?_
      refine V_iconst dX7_laysTurns_96 ?_
      refine V_iadd dX7_laysTurns_97 ?_
      refine VM_ialdE 9 (g 9 ((11 + 33 * b) + 2)) hB dX7_laysTurns_98 mar9 rfl (by first | omega | (simp [gup, aup]; omega)) (by show _ < (209 : Int); first | omega | (simp [gup, aup]; omega)) (by decide) rfl ?_
      refine V_icmp_ge 127 dX7_laysTurns_99 (by decide) (by first | omega | exact hr_g _ _ | decide) (by first | omega | exact hr_g _ _ | decide) (fun c_99 => ?_) (fun c_99 => by exfalso; omega)
      exact K _ _ hT'
    · have wc := wb.2.2.2.2 k h1 (by omega)
      have ih := ih (by omega) (aup T' (g 9 (11 + 33 * b + 9 + 3 * k)) 1) (hT'.up.c (fun t => by
        constructor
        · rintro ((q | ⟨i, i1, i2, i3⟩) | q)
          · exact Or.inl q
          · exact Or.inr ⟨i, i1, by omega, i3⟩
          · exact Or.inr ⟨k, h1, by omega, q⟩
        · rintro (q | ⟨i, i1, i2, i3⟩)
          · exact Or.inl (Or.inl q)
          · by_cases c1 : i = k
            · subst c1; exact Or.inr i3
            · exact Or.inl (Or.inr ⟨i, i1, by omega, i3⟩)))
      refine V_iload_n dX7_laysTurns_90 rfl ?_
      refine V_aload_n dX7_laysTurns_91 rfl ?_
      refine VM_geta 9 dX7_laysTurns_92 q2615 (by decide) rfl ?_
      refine V_iload_n dX7_laysTurns_95 rfl ?_
      refine V_iconst dX7_laysTurns_96 ?_
      refine V_iadd dX7_laysTurns_97 ?_
      refine VM_ialdE 9 (g 9 ((11 + 33 * b) + 2)) hB dX7_laysTurns_98 mar9 rfl (by first | omega | (simp [gup, aup]; omega)) (by show _ < (209 : Int); first | omega | (simp [gup, aup]; omega)) (by decide) rfl ?_
      refine V_icmp_ge 127 dX7_laysTurns_99 (by decide) (by first | omega | exact hr_g _ _ | decide) (by first | omega | exact hr_g _ _ | decide) (fun c_99 => by exfalso; omega) (fun c_99 => ?_)
      refine V_aload_n dX7_laysTurns_102 rfl ?_
      refine VM_geta 39 dX7_laysTurns_103 q2645 (by decide) rfl ?_
      refine V_aload_n dX7_laysTurns_106 rfl ?_
      refine VM_geta 9 dX7_laysTurns_107 q2615 (by decide) rfl ?_
      refine V_iload_n dX7_laysTurns_110 rfl ?_
      refine V_bipush dX7_laysTurns_111 (by decide) ?_
      refine V_iadd dX7_laysTurns_113 ?_
      refine V_iconst dX7_laysTurns_114 ?_
      refine V_iload_n dX7_laysTurns_115 rfl ?_
      refine V_imul dX7_laysTurns_116 ?_
      refine V_iadd dX7_laysTurns_117 ?_
      refine VM_ialdE 9 (g 9 (((11 + 33 * b) + 9) + (3 * k))) hB dX7_laysTurns_118 mar9 rfl (by first | omega | (simp [gup, aup]; omega)) (by show _ < (209 : Int); first | omega | (simp [gup, aup]; omega)) (by decide) rfl ?_
      refine V_iconst dX7_laysTurns_119 ?_
      refine VM_zast 39 hB dX7_laysTurns_120 mar39 rfl mfa39 (by first | decide | omega) (by first | omega | (simp [gup, aup]; omega)) (by show _ < (1002 : Int); first | omega | (simp [gup, aup]; omega)) (by decide) ?_
      refine V_iinc dX7_laysTurns_121 rfl (by decide) ?_
      refine V_goto 90 dX7_laysTurns_124 (by decide) ?_
      rw [gset_up]; exact ih
  refine L T (hT.c (fun t => ?_))
  constructor
  · exact Or.inl
  · rintro (q | ⟨i, i1, i2, -⟩)
    · exact q
    · omega
theorem c_lt32 (hB : MB am B) (hr_g : Rng g) {c : Int} (hw : WI c (g 9)) {T : Int → Int} {v2 v3 : Option Value} (hT : TO T (fun t => t = 0)) (K : ∀ T', TO T' (isT (g 9)) → Q .null (mkM am B h0 (gset g 39 T'))) : V E mX7_laysTurns 2 0 32 [some (.ref am), some (vI 0), v2, v3] [] (mkM am B h0 (gset g 39 T)) Q X := by
  have hw' := hw
  obtain ⟨w0, w1, w2, w3, w4, w5, w6⟩ := hw
  have L : ∀ T', TO T' (fun t => t = 0 ∨ ∃ b, 0 ≤ b ∧ b < 0 ∧ tOf (g 9) b t) → ∀ v2 v3, V E mX7_laysTurns 2 0 32 [some (.ref am), some (vI 0), v2, v3] [] (mkM am B h0 (gset g 39 T')) Q X := by
    refine loop_upI (P := fun k => ∀ T', TO T' (fun t => t = 0 ∨ ∃ b, 0 ≤ b ∧ b < k ∧ tOf (g 9) b t) → ∀ v2 v3, V E mX7_laysTurns 2 0 32 [some (.ref am), some (vI k), v2, v3] [] (mkM am B h0 (gset g 39 T')) Q X) 0 (g 9 3) (fun k h1 h2 ih => ?_) (by omega)
    intro T' hT' v2 v3
    have hrA : Rng (gset g 39 T') := hr_g.set hT'.1
    by_cases hk : k = g 9 3
    · subst hk
      refine V_iload_n dX7_laysTurns_32 rfl ?_
      refine V_aload_n dX7_laysTurns_33 rfl ?_
      refine VM_geta 9 dX7_laysTurns_34 q2615 (by decide) rfl ?_
      refine V_iconst dX7_laysTurns_37 ?_
      refine VM_ialdE 9 (g 9 3) hB dX7_laysTurns_38 mar9 rfl (by first | omega | (simp [gup, aup]; omega)) (by show _ < (209 : Int); first | omega | (simp [gup, aup]; omega)) (by decide) rfl ?_
      refine V_icmp_ge 133 dX7_laysTurns_39 (by decide) (by first | omega | exact hr_g _ _ | decide) (by first | omega | exact hr_g _ _ | decide) (fun c_39 => ?_) (fun c_39 => by exfalso; omega)
      exact V_vret dX7_laysTurns_133 rfl (by exact K _ hT')
    · have wb := w6 k h1 (by omega)
      have wb1 := wb.1
      have wb2 := wb.2.1
      have ih := ih (by omega)
      have iff1 : ∀ {R : Int → Prop} {t : Int}, (∀ t, R t ↔ ((t = 0 ∨ ∃ b, 0 ≤ b ∧ b < k ∧ tOf (g 9) b t) ∨ (t = g 9 (11 + 33 * k) ∨ (g 9 (11 + 33 * k + 1) ≠ -9 ∧ t = g 9 (11 + 33 * k + 1) + 1)))) → ((R t ∨ ∃ i, 0 ≤ i ∧ i < g 9 (11 + 33 * k + 2) ∧ t = g 9 (11 + 33 * k + 9 + 3 * i)) ↔ (t = 0 ∨ ∃ b, 0 ≤ b ∧ b < k + 1 ∧ tOf (g 9) b t)) := by
        intro R t hR
        rw [hR]
        constructor
        · rintro (((q | ⟨b, b1, b2, b3⟩) | q) | q)
          · exact Or.inl q
          · exact Or.inr ⟨b, b1, by omega, b3⟩
          · exact Or.inr ⟨k, h1, by omega, Or.inl q⟩
          · exact Or.inr ⟨k, h1, by omega, Or.inr q⟩
        · rintro (q | ⟨b, b1, b2, b3⟩)
          · exact Or.inl (Or.inl (Or.inl q))
          · by_cases c1 : b = k
            · subst c1
              rcases b3 with q | q
              · exact Or.inl (Or.inr q)
              · exact Or.inr q
            · exact Or.inl (Or.inl (Or.inr ⟨b, b1, by omega, b3⟩))
      have Lend : ∀ T3 v3, TO T3 (fun t => t = 0 ∨ ∃ b, 0 ≤ b ∧ b < k + 1 ∧ tOf (g 9) b t) → V E mX7_laysTurns 2 0 127 [some (.ref am), some (vI k), some (vI (11 + 33 * k)), v3] [] (mkM am B h0 (gset g 39 T3)) Q X := by
        intro T3 v3 hT3
        refine V_iinc dX7_laysTurns_127 rfl (by decide) ?_
        refine V_goto 32 dX7_laysTurns_130 (by decide) ?_
        exact ih _ hT3 _ _
      by_cases ce : g 9 (11 + 33 * k + 1) = -9
      · refine V_iload_n dX7_laysTurns_32 rfl ?_
        refine V_aload_n dX7_laysTurns_33 rfl ?_
        refine VM_geta 9 dX7_laysTurns_34 q2615 (by decide) rfl ?_
        refine V_iconst dX7_laysTurns_37 ?_
        refine VM_ialdE 9 (g 9 3) hB dX7_laysTurns_38 mar9 rfl (by first | omega | (simp [gup, aup]; omega)) (by show _ < (209 : Int); first | omega | (simp [gup, aup]; omega)) (by decide) rfl ?_
        refine V_icmp_ge 133 dX7_laysTurns_39 (by decide) (by first | omega | exact hr_g _ _ | decide) (by first | omega | exact hr_g _ _ | decide) (fun c_39 => by exfalso; omega) (fun c_39 => ?_)
        refine V_iload_n dX7_laysTurns_42 rfl ?_
        refine VS_c1 (M' := mX7_block0) okX7_block0 dX7_laysTurns_43 q2603 rfl rfl (Nat.le_of_ble_eq_true rfl) (d' := 1) (b1 := 0) (by decide) (by decide) (c_X7_block0 ?_)
        refine V_istore_n dX7_laysTurns_46 (by decide) ?_
        refine V_aload_n dX7_laysTurns_47 rfl ?_
        refine VM_geta 39 dX7_laysTurns_48 q2645 (by decide) rfl ?_
        refine V_aload_n dX7_laysTurns_51 rfl ?_
        refine VM_geta 9 dX7_laysTurns_52 q2615 (by decide) rfl ?_
        refine V_iload_n dX7_laysTurns_55 rfl ?_
        refine VM_ialdE 9 (g 9 (11 + 33 * k)) hB dX7_laysTurns_56 mar9 rfl (by first | omega | (simp [gup, aup]; omega)) (by show _ < (209 : Int); first | omega | (simp [gup, aup]; omega)) (by decide) rfl ?_
        refine V_iconst dX7_laysTurns_57 ?_
        refine VM_zast 39 hB dX7_laysTurns_58 mar39 rfl mfa39 (by first | decide | omega) (by first | omega | (simp [gup, aup]; omega)) (by show _ < (1002 : Int); first | omega | (simp [gup, aup]; omega)) (by decide) ?_
        refine V_aload_n dX7_laysTurns_59 rfl ?_
        refine VM_geta 9 dX7_laysTurns_60 q2615 (by decide) rfl ?_
        refine V_iload_n dX7_laysTurns_63 rfl ?_
        refine V_iconst dX7_laysTurns_64 ?_
        refine V_iadd dX7_laysTurns_65 ?_
        refine VM_ialdE 9 (g 9 ((11 + 33 * k) + 1)) hB dX7_laysTurns_66 mar9 rfl (by first | omega | (simp [gup, aup]; omega)) (by show _ < (209 : Int); first | omega | (simp [gup, aup]; omega)) (by decide) rfl ?_
        refine V_bipush dX7_laysTurns_67 (by decide) ?_
        refine V_icmp_eq 88 dX7_laysTurns_69 (by decide) (by first | omega | exact hr_g _ _ | decide) (by first | omega | exact hr_g _ _ | decide) (fun c_69 => ?_) (fun c_69 => by exfalso; omega)
        refine V_iconst dX7_laysTurns_88 ?_
        refine V_istore_n dX7_laysTurns_89 (by decide) ?_
        rw [gset_up]; exact c_lt90 hB hr_g hw' ⟨h1, by omega⟩ hT'.up (fun T3 v3 hT3 => Lend T3 v3 (hT3.c (fun t => iff1 (R := fun t => (t = 0 ∨ ∃ b, 0 ≤ b ∧ b < k ∧ tOf (g 9) b t) ∨ t = g 9 (11 + 33 * k)) (fun t => ⟨fun q => q.elim Or.inl (fun z => Or.inr (Or.inl z)), fun q => q.elim Or.inl (fun z => Or.inr (z.resolve_right (fun y => y.1 ce)))⟩))))
      · refine V_iload_n dX7_laysTurns_32 rfl ?_
        refine V_aload_n dX7_laysTurns_33 rfl ?_
        refine VM_geta 9 dX7_laysTurns_34 q2615 (by decide) rfl ?_
        refine V_iconst dX7_laysTurns_37 ?_
        refine VM_ialdE 9 (g 9 3) hB dX7_laysTurns_38 mar9 rfl (by first | omega | (simp [gup, aup]; omega)) (by show _ < (209 : Int); first | omega | (simp [gup, aup]; omega)) (by decide) rfl ?_
        refine V_icmp_ge 133 dX7_laysTurns_39 (by decide) (by first | omega | exact hr_g _ _ | decide) (by first | omega | exact hr_g _ _ | decide) (fun c_39 => by exfalso; omega) (fun c_39 => ?_)
        refine V_iload_n dX7_laysTurns_42 rfl ?_
        refine VS_c1 (M' := mX7_block0) okX7_block0 dX7_laysTurns_43 q2603 rfl rfl (Nat.le_of_ble_eq_true rfl) (d' := 1) (b1 := 0) (by decide) (by decide) (c_X7_block0 ?_)
        refine V_istore_n dX7_laysTurns_46 (by decide) ?_
        refine V_aload_n dX7_laysTurns_47 rfl ?_
        refine VM_geta 39 dX7_laysTurns_48 q2645 (by decide) rfl ?_
        refine V_aload_n dX7_laysTurns_51 rfl ?_
        refine VM_geta 9 dX7_laysTurns_52 q2615 (by decide) rfl ?_
        refine V_iload_n dX7_laysTurns_55 rfl ?_
        refine VM_ialdE 9 (g 9 (11 + 33 * k)) hB dX7_laysTurns_56 mar9 rfl (by first | omega | (simp [gup, aup]; omega)) (by show _ < (209 : Int); first | omega | (simp [gup, aup]; omega)) (by decide) rfl ?_
        refine V_iconst dX7_laysTurns_57 ?_
        refine VM_zast 39 hB dX7_laysTurns_58 mar39 rfl mfa39 (by first | decide | omega) (by first | omega | (simp [gup, aup]; omega)) (by show _ < (1002 : Int); first | omega | (simp [gup, aup]; omega)) (by decide) ?_
        refine V_aload_n dX7_laysTurns_59 rfl ?_
        refine VM_geta 9 dX7_laysTurns_60 q2615 (by decide) rfl ?_
        refine V_iload_n dX7_laysTurns_63 rfl ?_
        refine V_iconst dX7_laysTurns_64 ?_
        refine V_iadd dX7_laysTurns_65 ?_
        refine VM_ialdE 9 (g 9 ((11 + 33 * k) + 1)) hB dX7_laysTurns_66 mar9 rfl (by first | omega | (simp [gup, aup]; omega)) (by show _ < (209 : Int); first | omega | (simp [gup, aup]; omega)) (by decide) rfl ?_
        refine V_bipush dX7_laysTurns_67 (by decide) ?_
        refine V_icmp_eq 88 dX7_laysTurns_69 (by decide) (by first | omega | exact hr_g _ _ | decide) (by first | omega | exact hr_g _ _ | decide) (fun c_69 => by exfalso; omega) (fun c_69 => ?_)
        refine V_aload_n dX7_laysTurns_72 rfl ?_
        refine VM_geta 39 dX7_laysTurns_73 q2645 (by decide) rfl ?_
        refine V_aload_n dX7_laysTurns_76 rfl ?_
        refine VM_geta 9 dX7_laysTurns_77 q2615 (by decide) rfl ?_
        refine V_iload_n dX7_laysTurns_80 rfl ?_
        refine V_iconst dX7_laysTurns_81 ?_
        refine V_iadd dX7_laysTurns_82 ?_
        refine VM_ialdE 9 (g 9 ((11 + 33 * k) + 1)) hB dX7_laysTurns_83 mar9 rfl (by first | omega | (simp [gup, aup]; omega)) (by show _ < (209 : Int); first | omega | (simp [gup, aup]; omega)) (by decide) rfl ?_
        refine V_iconst dX7_laysTurns_84 ?_
        refine V_iadd dX7_laysTurns_85 ?_
        refine V_iconst dX7_laysTurns_86 ?_
        refine VM_zast 39 hB dX7_laysTurns_87 mar39 rfl mfa39 (by first | decide | omega) (by first | omega | (simp [gup, aup]; omega)) (by show _ < (1002 : Int); first | omega | (simp [gup, aup]; omega)) (by decide) ?_
        refine V_iconst dX7_laysTurns_88 ?_
        refine V_istore_n dX7_laysTurns_89 (by decide) ?_
        rw [gset_up, gset_up]; exact c_lt90 hB hr_g hw' ⟨h1, by omega⟩ hT'.up.up (fun T3 v3 hT3 => Lend T3 v3 (hT3.c (fun t => iff1 (fun t => ⟨fun q => q.elim (fun q => q.elim Or.inl (fun z => Or.inr (Or.inl z))) (fun z => Or.inr (Or.inr ⟨ce, z⟩)), fun q => q.elim (fun z => Or.inl (Or.inl z)) (fun q => q.elim (fun z => Or.inl (Or.inr z)) (fun z => Or.inr z.2))⟩))))
  refine L T (hT.c (fun t => ⟨Or.inl, fun q => q.elim id (fun ⟨b, b1, b2, _⟩ => by omega)⟩)) _ _
theorem c_X7_laysTurns (hB : MB am B) (hr_g : Rng g) {c : Int} (hw : WI c (g 9)) (K : ∀ T', TO T' (isT (g 9)) → Q .null (mkM am B h0 (gset g 39 T'))) : V E mX7_laysTurns 2 0 0 [some (.ref am), none, none, none] [] (mkM am B h0 g) Q X := by
  have hz : ∀ j : Int, inr ((fun t : Int => if t = 0 then (1 : Int) else 0) j) := fun j => by
    dsimp only; split <;> decide
  have L : V E mX7_laysTurns 2 0 2 [some (.ref am), some (vI 0), none, none] [] (mkM am B h0 (gset g 39 (acp (g 39) (fun t => if t = 0 then 1 else 0) 0 0 0))) Q X := by
    refine loop_upI (P := fun i => V E mX7_laysTurns 2 0 2 [some (.ref am), some (vI i), none, none] [] (mkM am B h0 (gset g 39 (acp (g 39) (fun t => if t = 0 then 1 else 0) 0 i 0))) Q X) 0 1002 (fun i h1 h2 ih => ?_) (by omega)
    have hrA : Rng (gset g 39 (acp (g 39) (fun t => if t = 0 then 1 else 0) 0 i 0)) := hr_g.set (acp_r (hr_g 39) hz)
    by_cases hi : i = 1002
    · subst hi
      refine V_iload_n dX7_laysTurns_2 rfl ?_
      refine V_sipush dX7_laysTurns_3 (by decide) ?_
      refine V_icmp_ge 30 dX7_laysTurns_6 (by decide) (by first | omega | exact hr_g _ _ | decide) (by first | omega | exact hr_g _ _ | decide) (fun c_6 => ?_) (fun c_6 => absurd c_6 (by decide))
      refine V_iconst dX7_laysTurns_30 ?_
      refine V_istore_n dX7_laysTurns_31 (by decide) ?_
      refine c_lt32 hB hr_g hw ⟨acp_r (hr_g 39) hz, fun t t1 t2 => ?_⟩ K; unfold acp; rw [if_pos (by omega), Int.add_zero]; dsimp only; by_cases c0 : t = 0; (rw [if_pos c0]; exact ⟨Or.inr rfl, fun _ => c0, fun _ => rfl⟩); (rw [if_neg c0]; exact ⟨Or.inl rfl, fun q => absurd q (by decide), fun q => absurd q c0⟩)
    · have ih := ih (by omega)
      rw [← acp_s h1, Int.add_zero] at ih
      by_cases c0 : i = 0
      · rw [if_pos c0] at ih
        refine V_iload_n dX7_laysTurns_2 rfl ?_
        refine V_sipush dX7_laysTurns_3 (by decide) ?_
        refine V_icmp_ge 30 dX7_laysTurns_6 (by decide) (by first | omega | exact hr_g _ _ | decide) (by first | omega | exact hr_g _ _ | decide) (fun c_6 => by exfalso; omega) (fun c_6 => ?_)
        refine V_aload_n dX7_laysTurns_9 rfl ?_
        refine VM_geta 39 dX7_laysTurns_10 q2645 (by decide) rfl ?_
        refine V_iload_n dX7_laysTurns_13 rfl ?_
        refine V_iload_n dX7_laysTurns_14 rfl ?_
        refine V_if_ne 22 dX7_laysTurns_15 (by decide) (by first | omega | exact hr_g _ _ | decide) (fun c_15 => by exfalso; omega) (fun c_15 => ?_)
        refine V_iconst dX7_laysTurns_18 ?_
        refine V_goto 23 dX7_laysTurns_19 (by decide) ?_
        refine VM_zast 39 hB dX7_laysTurns_23 mar39 rfl mfa39 (by first | decide | omega) (by first | omega | (simp [gup, aup]; omega)) (by show _ < (1002 : Int); first | omega | (simp [gup, aup]; omega)) (by decide) ?_
        refine V_iinc dX7_laysTurns_24 rfl (by decide) ?_
        refine V_goto 2 dX7_laysTurns_27 (by decide) ?_
        rw [gset_up]; exact ih
      · rw [if_neg c0] at ih
        refine V_iload_n dX7_laysTurns_2 rfl ?_
        refine V_sipush dX7_laysTurns_3 (by decide) ?_
        refine V_icmp_ge 30 dX7_laysTurns_6 (by decide) (by first | omega | exact hr_g _ _ | decide) (by first | omega | exact hr_g _ _ | decide) (fun c_6 => by exfalso; omega) (fun c_6 => ?_)
        refine V_aload_n dX7_laysTurns_9 rfl ?_
        refine VM_geta 39 dX7_laysTurns_10 q2645 (by decide) rfl ?_
        refine V_iload_n dX7_laysTurns_13 rfl ?_
        refine V_iload_n dX7_laysTurns_14 rfl ?_
        refine V_if_ne 22 dX7_laysTurns_15 (by decide) (by first | omega | exact hr_g _ _ | decide) (fun c_15 => ?_) (fun c_15 => by exfalso; omega)
        refine V_iconst dX7_laysTurns_22 ?_
        refine VM_zast 39 hB dX7_laysTurns_23 mar39 rfl mfa39 (by first | decide | omega) (by first | omega | (simp [gup, aup]; omega)) (by show _ < (1002 : Int); first | omega | (simp [gup, aup]; omega)) (by decide) ?_
        refine V_iinc dX7_laysTurns_24 rfl (by decide) ?_
        refine V_goto 2 dX7_laysTurns_27 (by decide) ?_
        rw [gset_up]; exact ih
  rw [acp_0, gset_self] at L
  refine V_iconst dX7_laysTurns_0 ?_
  refine V_istore_n dX7_laysTurns_1 (by decide) ?_
  exact L
end M22
