/-! THE REFERENCE'S METHODS, part 2: what is due; names; scopes, paths -/
def nBy (a : Int → Int) (cnt sc nm : Int) : Int := lastI (fun n => decide (a (6 * n + 3) = sc ∧ a (6 * n + 4) = nm)) cnt
def sBy (w z : Int → Int) (cnt sc nm : Int) : Int := lastI (fun k => decide (w k = sc ∧ z k = nm)) cnt
def nNB (g : MG) (sc nm : Int) : Int := nBy (g 21) (g 22 0) sc nm
def nSB (g : MG) (sc nm : Int) : Int := sBy (g 25) (g 26) (g 27 0) sc nm
def oNB (g : MG) (sc nm : Int) : Int := nBy (g 0) (g 1 0) sc nm
def oSB (g : MG) (sc nm : Int) : Int := sBy (g 4) (g 5) (g 6 0) sc nm
theorem lastI_r {p : Int → Bool} {n : Int} (h : 0 ≤ n) (h2 : n ≤ 1000) : inr (lastI p n) := by
  rcases lastI_in (p := p) h with h1 | ⟨h1, h3, -⟩ <;> constructor <;> omega
theorem tkEnd_in {tx : Int → Int} {n a : Int} (h : a ≤ n) (h0 : 0 ≤ a) : a ≤ tkEnd tx n a ∧ tkEnd tx n a ≤ n ∧ (a ≠ n → a < tkEnd tx n a) := by
  unfold tkEnd
  by_cases h1 : a = n
  · rw [pIf_t h1]; omega
  · rw [pIf_f h1]
    by_cases h2 : 48 ≤ tx a ∧ tx a ≤ 57
    · rw [pIf_t h2, fgE_s ⟨by omega, h2.1, h2.2⟩]
      have := fgE_in (tx := tx) (n := n) (a := a + 1) (by omega)
      omega
    · rw [pIf_f h2]; omega
theorem tkSort_in {tx : Int → Int} {n a : Int} : 1 ≤ tkSort tx n a ∧ tkSort tx n a ≤ 5 := by
  unfold tkSort pIf
  repeat' split
  all_goals omega
/-- what stands where a text is read: the numbers' ranges -/
def TI (g : MG) : Prop := Rng g ∧ 0 ≤ g 16 0 ∧ g 16 0 ≤ g 15 0 ∧ g 15 0 ≤ 160
theorem rng_pNext {g : MG} (h : Rng g) (ha : 0 ≤ g 16 0 ∧ g 16 0 ≤ g 15 0 ∧ g 15 0 ≤ 160) : Rng (pNext g) := by
  have h1 := tkS_in (tx := g 14) ha.2.1
  have h2 := tkEnd_in (tx := g 14) h1.2 (by omega)
  have h3 := tkSort_in (tx := g 14) (n := g 15 0) (a := tkS (g 14) (g 15 0) (g 16 0))
  have h4 := fgV_in (tx := g 14) h1.2 0 (by omega)
  unfold pNext
  refine h.pT ⟨by omega, by omega⟩ ⟨by omega, by omega⟩ ⟨by omega, by omega⟩ ?_
  unfold tkVal pIf
  have h5 := h 14 (tkS (g 14) (g 15 0) (g 16 0))
  have h6 := h 19 0
  repeat' split
  all_goals (constructor <;> omega)
section M2
variable {E : Ev} {am : Nat} {B : Nat → Nat} {h0 h : AH} {g : MG} {Q : Value → AH → Prop} {X : Nat → AH → Prop}
theorem c_X7_due1 (hB : MB am B) (hr_g : Rng g) (K : Q .null (mkM am B h0 g)) : V E mX7_due 1 0 0 [some (.ref am), some (vI 1)] [] (mkM am B h0 g) Q X := by
  refine V_iload_n dX7_due_0 rfl ?_
  refine V_if_ne 21 dX7_due_1 (by decide) (by first | omega | exact hr_g _ _ | decide) (fun c_1 => ?_) (fun c_1 => absurd c_1 (by decide))
  exact V_vret dX7_due_21 rfl (by exact K)
theorem c_X7_due0 (hB : MB am B) (hr_g : Rng g) (hf : g 20 0 = -9) (K : Q .null (mkM am B h0 (gup g 20 0 (g 17 0)))) : V E mX7_due 1 0 0 [some (.ref am), some (vI 0)] [] (mkM am B h0 g) Q X := by
  refine V_iload_n dX7_due_0 rfl ?_
  refine V_if_ne 21 dX7_due_1 (by decide) (by first | omega | exact hr_g _ _ | decide) (fun c_1 => absurd c_1 (by decide)) (fun c_1 => ?_)
  refine V_aload_n dX7_due_4 rfl ?_
  refine VM_getiE 20 (g 20 0) dX7_due_5 q2626 (by decide) rfl rfl ?_
  refine V_bipush dX7_due_8 (by decide) ?_
  refine V_icmp_ne 21 dX7_due_10 (by decide) (by first | omega | exact hr_g _ _ | decide) (by first | omega | exact hr_g _ _ | decide) (fun c_10 => by exfalso; omega) (fun c_10 => ?_)
  refine V_aload_n dX7_due_13 rfl ?_
  refine V_aload_n dX7_due_14 rfl ?_
  refine VM_getiE 17 (g 17 0) dX7_due_15 q2623 (by decide) rfl rfl ?_
  refine VM_puti 20 dX7_due_18 q2626 (by decide) rfl rfl mfs20 mna20 ?_
  exact V_vret dX7_due_21 rfl (by exact K)
theorem c_X7_dueB (hB : MB am B) (hr_g : Rng g) {z : Int} (hz : inr z) (hf : g 20 0 ≠ -9) (K : Q .null (mkM am B h0 g)) : V E mX7_due 1 0 0 [some (.ref am), some (vI z)] [] (mkM am B h0 g) Q X := by
  refine V_iload_n dX7_due_0 rfl ?_
  refine V_if_ne 21 dX7_due_1 (by decide) (by first | omega | exact hr_g _ _ | decide) (fun c_1 => ?_) (fun c_1 => ?_)
  · exact V_vret dX7_due_21 rfl (by exact K)
  · refine V_aload_n dX7_due_4 rfl ?_
    refine VM_getiE 20 (g 20 0) dX7_due_5 q2626 (by decide) rfl rfl ?_
    refine V_bipush dX7_due_8 (by decide) ?_
    refine V_icmp_ne 21 dX7_due_10 (by decide) (by first | omega | exact hr_g _ _ | decide) (by first | omega | exact hr_g _ _ | decide) (fun c_10 => ?_) (fun c_10 => by exfalso; omega)
    exact V_vret dX7_due_21 rfl (by exact K)
theorem c_X7_passes1 (hB : MB am B) (hr_g : Rng g) (ha : 0 ≤ g 16 0 ∧ g 16 0 ≤ g 15 0 ∧ g 15 0 ≤ 160) (hf : g 20 0 = -9) (K : Q .null (mkM am B h0 (pNext g))) : V E mX7_passes 4 0 0 [some (.ref am), some (vI 1)] [] (mkM am B h0 g) Q X := by
  refine V_aload_n dX7_passes_0 rfl ?_
  refine V_iload_n dX7_passes_1 rfl ?_
  refine VM_v1 (M' := mX7_due) okX7_due rfl dX7_passes_2 q2796 rfl rfl (Nat.le_of_ble_eq_true rfl) (d' := 1) (b1 := 0) (by decide) (by decide) (c_X7_due1 hB hr_g ?_)
  refine V_aload_n dX7_passes_5 rfl ?_
  refine VM_getiE 20 (g 20 0) dX7_passes_6 q2626 (by decide) rfl rfl ?_
  refine V_bipush dX7_passes_9 (by decide) ?_
  refine V_icmp_ne 18 dX7_passes_11 (by decide) (by first | omega | exact hr_g _ _ | decide) (by first | omega | exact hr_g _ _ | decide) (fun c_11 => by exfalso; omega) (fun c_11 => ?_)
  refine V_aload_n dX7_passes_14 rfl ?_
  refine VM_v0 (M' := mX7_next) okX7_next rfl dX7_passes_15 q2773 rfl rfl (Nat.le_of_ble_eq_true rfl) (d' := 3) (b1 := 0) (by decide) (by decide) (c_X7_next hB hr_g (by omega) ?_)
  exact V_vret dX7_passes_18 rfl (by exact K)
theorem c_X7_passes0 (hB : MB am B) (hr_g : Rng g) (hf : g 20 0 = -9) (hs : g 17 0 ≠ -9) (K : Q .null (mkM am B h0 (gup g 20 0 (g 17 0)))) : V E mX7_passes 4 0 0 [some (.ref am), some (vI 0)] [] (mkM am B h0 g) Q X := by
  refine V_aload_n dX7_passes_0 rfl ?_
  refine V_iload_n dX7_passes_1 rfl ?_
  refine VM_v1 (M' := mX7_due) okX7_due rfl dX7_passes_2 q2796 rfl rfl (Nat.le_of_ble_eq_true rfl) (d' := 1) (b1 := 0) (by decide) (by decide) (c_X7_due0 hB hr_g (by omega) ?_)
  refine V_aload_n dX7_passes_5 rfl ?_
  refine VM_getiE 20 (g 17 0) dX7_passes_6 q2626 (by decide) rfl rfl ?_
  refine V_bipush dX7_passes_9 (by decide) ?_
  refine V_icmp_ne 18 dX7_passes_11 (by decide) (by first | omega | exact hr_g _ _ | decide) (by first | omega | exact hr_g _ _ | decide) (fun c_11 => ?_) (fun c_11 => by exfalso; omega)
  exact V_vret dX7_passes_18 rfl (by exact K)
theorem c_X7_passesB (hB : MB am B) (hr_g : Rng g) {z : Int} (hz : inr z) (hf : g 20 0 ≠ -9) (K : Q .null (mkM am B h0 g)) : V E mX7_passes 4 0 0 [some (.ref am), some (vI z)] [] (mkM am B h0 g) Q X := by
  refine V_aload_n dX7_passes_0 rfl ?_
  refine V_iload_n dX7_passes_1 rfl ?_
  refine VM_v1 (M' := mX7_due) okX7_due rfl dX7_passes_2 q2796 rfl rfl (Nat.le_of_ble_eq_true rfl) (d' := 1) (b1 := 0) (by decide) (by decide) (c_X7_dueB hB hr_g (by first | omega | exact hr_g _ _ | decide) (by omega) ?_)
  refine V_aload_n dX7_passes_5 rfl ?_
  refine VM_getiE 20 (g 20 0) dX7_passes_6 q2626 (by decide) rfl rfl ?_
  refine V_bipush dX7_passes_9 (by decide) ?_
  refine V_icmp_ne 18 dX7_passes_11 (by decide) (by first | omega | exact hr_g _ _ | decide) (by first | omega | exact hr_g _ _ | decide) (fun c_11 => ?_) (fun c_11 => by exfalso; omega)
  exact V_vret dX7_passes_18 rfl (by exact K)
theorem c_X7_newNodeBy (hB : MB am B) (hr_g : Rng g) {sc nm : Int} (h1 : inr sc) (h2 : inr nm) (hn : 0 ≤ g 22 0 ∧ g 22 0 ≤ 12) (K : Q (vI (nNB g sc nm)) (mkM am B h0 g)) : V E mX7_newNodeBy 2 0 0 [some (.ref am), some (vI sc), some (vI nm), none, none] [] (mkM am B h0 g) Q X := by
  obtain ⟨hn0, hn1⟩ := hn
  have L : V E mX7_newNodeBy 2 0 6 [some (.ref am), some (vI sc), some (vI nm), some (vI (-9)), some (vI 0)] [] (mkM am B h0 g) Q X := by
    refine loop_upI (P := fun i => ∀ f, f = lastI (fun n => decide (g 21 (6 * n + 3) = sc ∧ g 21 (6 * n + 4) = nm)) i → V E mX7_newNodeBy 2 0 6 [some (.ref am), some (vI sc), some (vI nm), some (vI f), some (vI i)] [] (mkM am B h0 g) Q X) 0 (g 22 0) (fun i hi1 hi2 ih => ?_) hn0 (-9) lastI_0.symm
    intro f hf
    refine V_iload dX7_newNodeBy_6 rfl ?_
    refine V_aload_n dX7_newNodeBy_8 rfl ?_
    refine VM_getiE 22 (g 22 0) dX7_newNodeBy_9 q2628 (by decide) rfl rfl ?_
    refine V_icmp_ge 60 dX7_newNodeBy_12 (by decide) (by first | omega | exact hr_g _ _ | decide) (by first | omega | exact hr_g _ _ | decide) (fun c_12 => ?_) (fun c_12 => ?_)
    · refine V_iload_n dX7_newNodeBy_60 rfl ?_
      exact V_iret dX7_newNodeBy_61 rfl (by have e : nNB g sc nm = f := (by rw [hf]; unfold nNB nBy; rw [show g 22 0 = i by omega]); rw [← e]; exact K)
    · refine V_aload_n dX7_newNodeBy_15 rfl ?_
      refine VM_geta 21 dX7_newNodeBy_16 q2627 (by decide) rfl ?_
      refine V_bipush dX7_newNodeBy_19 (by decide) ?_
      refine V_iload dX7_newNodeBy_21 rfl ?_
      refine V_imul dX7_newNodeBy_23 ?_
      refine V_iconst dX7_newNodeBy_24 ?_
      refine V_iadd dX7_newNodeBy_25 ?_
      refine VM_ialdE 21 (g 21 ((6 * i) + 3)) hB dX7_newNodeBy_26 mar21 rfl (by omega) (by show _ < (72 : Int); omega) (by decide) rfl ?_
      refine V_iload_n dX7_newNodeBy_27 rfl ?_
      refine V_icmp_ne 52 dX7_newNodeBy_28 (by decide) (by first | omega | exact hr_g _ _ | decide) (by first | omega | exact hr_g _ _ | decide) (fun c_28 => ?_) (fun c_28 => ?_)
      · refine V_iload_n dX7_newNodeBy_52 rfl ?_
        refine V_istore_n dX7_newNodeBy_53 (by decide) ?_
        refine V_iinc dX7_newNodeBy_54 rfl (by decide) ?_
        refine V_goto 6 dX7_newNodeBy_57 (by decide) ?_
        exact ih (by omega) _ (by rw [lastI_s hi1, ← hf]; first | (rw [if_pos (by simp only [decide_eq_true_eq]; omega)]; done) | (rw [if_neg (by simp only [decide_eq_true_eq]; omega)]; done))
      · refine V_aload_n dX7_newNodeBy_31 rfl ?_
        refine VM_geta 21 dX7_newNodeBy_32 q2627 (by decide) rfl ?_
        refine V_bipush dX7_newNodeBy_35 (by decide) ?_
        refine V_iload dX7_newNodeBy_37 rfl ?_
        refine V_imul dX7_newNodeBy_39 ?_
        refine V_iconst dX7_newNodeBy_40 ?_
        refine V_iadd dX7_newNodeBy_41 ?_
        refine VM_ialdE 21 (g 21 ((6 * i) + 4)) hB dX7_newNodeBy_42 mar21 rfl (by omega) (by show _ < (72 : Int); omega) (by decide) rfl ?_
        refine V_iload_n dX7_newNodeBy_43 rfl ?_
        refine V_icmp_ne 52 dX7_newNodeBy_44 (by decide) (by first | omega | exact hr_g _ _ | decide) (by first | omega | exact hr_g _ _ | decide) (fun c_44 => ?_) (fun c_44 => ?_)
        · refine V_iload_n dX7_newNodeBy_52 rfl ?_
          refine V_istore_n dX7_newNodeBy_53 (by decide) ?_
          refine V_iinc dX7_newNodeBy_54 rfl (by decide) ?_
          refine V_goto 6 dX7_newNodeBy_57 (by decide) ?_
          exact ih (by omega) _ (by rw [lastI_s hi1, ← hf]; first | (rw [if_pos (by simp only [decide_eq_true_eq]; omega)]; done) | (rw [if_neg (by simp only [decide_eq_true_eq]; omega)]; done))
        · refine V_iload dX7_newNodeBy_47 rfl ?_
          refine V_goto 53 dX7_newNodeBy_49 (by decide) ?_
          refine V_istore_n dX7_newNodeBy_53 (by decide) ?_
          refine V_iinc dX7_newNodeBy_54 rfl (by decide) ?_
          refine V_goto 6 dX7_newNodeBy_57 (by decide) ?_
          exact ih (by omega) _ (by rw [lastI_s hi1, ← hf]; first | (rw [if_pos (by simp only [decide_eq_true_eq]; omega)]; done) | (rw [if_neg (by simp only [decide_eq_true_eq]; omega)]; done))
  refine V_bipush dX7_newNodeBy_0 (by decide) ?_
  refine V_istore_n dX7_newNodeBy_2 (by decide) ?_
  refine V_iconst dX7_newNodeBy_3 ?_
  refine V_istore dX7_newNodeBy_4 (by decide) ?_
  exact L
theorem c_X7_newScopeBy (hB : MB am B) (hr_g : Rng g) {sc nm : Int} (h1 : inr sc) (h2 : inr nm) (hn : 0 ≤ g 27 0 ∧ g 27 0 ≤ 6) (K : Q (vI (nSB g sc nm)) (mkM am B h0 g)) : V E mX7_newScopeBy 2 0 0 [some (.ref am), some (vI sc), some (vI nm), none, none] [] (mkM am B h0 g) Q X := by
  obtain ⟨hn0, hn1⟩ := hn
  have L : V E mX7_newScopeBy 2 0 6 [some (.ref am), some (vI sc), some (vI nm), some (vI (-9)), some (vI 0)] [] (mkM am B h0 g) Q X := by
    refine loop_upI (P := fun i => ∀ f, f = lastI (fun n => decide (g 25 n = sc ∧ g 26 n = nm)) i → V E mX7_newScopeBy 2 0 6 [some (.ref am), some (vI sc), some (vI nm), some (vI f), some (vI i)] [] (mkM am B h0 g) Q X) 0 (g 27 0) (fun i hi1 hi2 ih => ?_) hn0 (-9) lastI_0.symm
    intro f hf
    refine V_iload dX7_newScopeBy_6 rfl ?_
    refine V_aload_n dX7_newScopeBy_8 rfl ?_
    refine VM_getiE 27 (g 27 0) dX7_newScopeBy_9 q2633 (by decide) rfl rfl ?_
    refine V_icmp_ge 50 dX7_newScopeBy_12 (by decide) (by first | omega | exact hr_g _ _ | decide) (by first | omega | exact hr_g _ _ | decide) (fun c_12 => ?_) (fun c_12 => ?_)
    · refine V_iload_n dX7_newScopeBy_50 rfl ?_
      exact V_iret dX7_newScopeBy_51 rfl (by have e : nSB g sc nm = f := (by rw [hf]; unfold nSB sBy; rw [show g 27 0 = i by omega]); rw [← e]; exact K)
    · refine V_aload_n dX7_newScopeBy_15 rfl ?_
      refine VM_geta 25 dX7_newScopeBy_16 q2631 (by decide) rfl ?_
      refine V_iload dX7_newScopeBy_19 rfl ?_
      refine VM_ialdE 25 (g 25 i) hB dX7_newScopeBy_21 mar25 rfl (by omega) (by show _ < (6 : Int); omega) (by decide) rfl ?_
      refine V_iload_n dX7_newScopeBy_22 rfl ?_
      refine V_icmp_ne 42 dX7_newScopeBy_23 (by decide) (by first | omega | exact hr_g _ _ | decide) (by first | omega | exact hr_g _ _ | decide) (fun c_23 => ?_) (fun c_23 => ?_)
      · refine V_iload_n dX7_newScopeBy_42 rfl ?_
        refine V_istore_n dX7_newScopeBy_43 (by decide) ?_
        refine V_iinc dX7_newScopeBy_44 rfl (by decide) ?_
        refine V_goto 6 dX7_newScopeBy_47 (by decide) ?_
        exact ih (by omega) _ (by rw [lastI_s hi1, ← hf]; first | (rw [if_pos (by simp only [decide_eq_true_eq]; omega)]; done) | (rw [if_neg (by simp only [decide_eq_true_eq]; omega)]; done))
      · refine V_aload_n dX7_newScopeBy_26 rfl ?_
        refine VM_geta 26 dX7_newScopeBy_27 q2632 (by decide) rfl ?_
        refine V_iload dX7_newScopeBy_30 rfl ?_
        refine VM_ialdE 26 (g 26 i) hB dX7_newScopeBy_32 mar26 rfl (by omega) (by show _ < (6 : Int); omega) (by decide) rfl ?_
        refine V_iload_n dX7_newScopeBy_33 rfl ?_
        refine V_icmp_ne 42 dX7_newScopeBy_34 (by decide) (by first | omega | exact hr_g _ _ | decide) (by first | omega | exact hr_g _ _ | decide) (fun c_34 => ?_) (fun c_34 => ?_)
        · refine V_iload_n dX7_newScopeBy_42 rfl ?_
          refine V_istore_n dX7_newScopeBy_43 (by decide) ?_
          refine V_iinc dX7_newScopeBy_44 rfl (by decide) ?_
          refine V_goto 6 dX7_newScopeBy_47 (by decide) ?_
          exact ih (by omega) _ (by rw [lastI_s hi1, ← hf]; first | (rw [if_pos (by simp only [decide_eq_true_eq]; omega)]; done) | (rw [if_neg (by simp only [decide_eq_true_eq]; omega)]; done))
        · refine V_iload dX7_newScopeBy_37 rfl ?_
          refine V_goto 43 dX7_newScopeBy_39 (by decide) ?_
          refine V_istore_n dX7_newScopeBy_43 (by decide) ?_
          refine V_iinc dX7_newScopeBy_44 rfl (by decide) ?_
          refine V_goto 6 dX7_newScopeBy_47 (by decide) ?_
          exact ih (by omega) _ (by rw [lastI_s hi1, ← hf]; first | (rw [if_pos (by simp only [decide_eq_true_eq]; omega)]; done) | (rw [if_neg (by simp only [decide_eq_true_eq]; omega)]; done))
  refine V_bipush dX7_newScopeBy_0 (by decide) ?_
  refine V_istore_n dX7_newScopeBy_2 (by decide) ?_
  refine V_iconst dX7_newScopeBy_3 ?_
  refine V_istore dX7_newScopeBy_4 (by decide) ?_
  exact L
theorem c_X7_nodeBy (hB : MB am B) (hr_g : Rng g) {sc nm : Int} (h1 : inr sc) (h2 : inr nm) (hn : 0 ≤ g 1 0 ∧ g 1 0 ≤ 12) (K : Q (vI (oNB g sc nm)) (mkM am B h0 g)) : V E mX7_nodeBy 2 0 0 [some (.ref am), some (vI sc), some (vI nm), none, none] [] (mkM am B h0 g) Q X := by
  obtain ⟨hn0, hn1⟩ := hn
  have L : V E mX7_nodeBy 2 0 6 [some (.ref am), some (vI sc), some (vI nm), some (vI (-9)), some (vI 0)] [] (mkM am B h0 g) Q X := by
    refine loop_upI (P := fun i => ∀ f, f = lastI (fun n => decide (g 0 (6 * n + 3) = sc ∧ g 0 (6 * n + 4) = nm)) i → V E mX7_nodeBy 2 0 6 [some (.ref am), some (vI sc), some (vI nm), some (vI f), some (vI i)] [] (mkM am B h0 g) Q X) 0 (g 1 0) (fun i hi1 hi2 ih => ?_) hn0 (-9) lastI_0.symm
    intro f hf
    refine V_iload dX7_nodeBy_6 rfl ?_
    refine V_aload_n dX7_nodeBy_8 rfl ?_
    refine VM_getiE 1 (g 1 0) dX7_nodeBy_9 q2607 (by decide) rfl rfl ?_
    refine V_icmp_ge 50 dX7_nodeBy_12 (by decide) (by first | omega | exact hr_g _ _ | decide) (by first | omega | exact hr_g _ _ | decide) (fun c_12 => ?_) (fun c_12 => ?_)
    · refine V_iload_n dX7_nodeBy_50 rfl ?_
      exact V_iret dX7_nodeBy_51 rfl (by have e : oNB g sc nm = f := (by rw [hf]; unfold oNB nBy; rw [show g 1 0 = i by omega]); rw [← e]; exact K)
    · refine V_aload_n dX7_nodeBy_15 rfl ?_
      refine V_iload dX7_nodeBy_16 rfl ?_
      refine V_iconst dX7_nodeBy_18 ?_
      refine VM_c2 (M' := mX7_of) okX7_of rfl dX7_nodeBy_19 q2860 rfl rfl (Nat.le_of_ble_eq_true rfl) (d' := 1) (b1 := 0) (by decide) (by decide) (c_X7_of hB (by omega) (by omega) ?_)
      refine V_iload_n dX7_nodeBy_22 rfl ?_
      refine V_icmp_ne 42 dX7_nodeBy_23 (by decide) (by first | omega | exact hr_g _ _ | decide) (by first | omega | exact hr_g _ _ | decide) (fun c_23 => ?_) (fun c_23 => ?_)
      · refine V_iload_n dX7_nodeBy_42 rfl ?_
        refine V_istore_n dX7_nodeBy_43 (by decide) ?_
        refine V_iinc dX7_nodeBy_44 rfl (by decide) ?_
        refine V_goto 6 dX7_nodeBy_47 (by decide) ?_
        exact ih (by omega) _ (by rw [lastI_s hi1, ← hf]; first | (rw [if_pos (by simp only [decide_eq_true_eq]; omega)]; done) | (rw [if_neg (by simp only [decide_eq_true_eq]; omega)]; done))
      · refine V_aload_n dX7_nodeBy_26 rfl ?_
        refine V_iload dX7_nodeBy_27 rfl ?_
        refine V_iconst dX7_nodeBy_29 ?_
        refine VM_c2 (M' := mX7_of) okX7_of rfl dX7_nodeBy_30 q2860 rfl rfl (Nat.le_of_ble_eq_true rfl) (d' := 1) (b1 := 0) (by decide) (by decide) (c_X7_of hB (by omega) (by omega) ?_)
        refine V_iload_n dX7_nodeBy_33 rfl ?_
        refine V_icmp_ne 42 dX7_nodeBy_34 (by decide) (by first | omega | exact hr_g _ _ | decide) (by first | omega | exact hr_g _ _ | decide) (fun c_34 => ?_) (fun c_34 => ?_)
        · refine V_iload_n dX7_nodeBy_42 rfl ?_
          refine V_istore_n dX7_nodeBy_43 (by decide) ?_
          refine V_iinc dX7_nodeBy_44 rfl (by decide) ?_
          refine V_goto 6 dX7_nodeBy_47 (by decide) ?_
          exact ih (by omega) _ (by rw [lastI_s hi1, ← hf]; first | (rw [if_pos (by simp only [decide_eq_true_eq]; omega)]; done) | (rw [if_neg (by simp only [decide_eq_true_eq]; omega)]; done))
        · refine V_iload dX7_nodeBy_37 rfl ?_
          refine V_goto 43 dX7_nodeBy_39 (by decide) ?_
          refine V_istore_n dX7_nodeBy_43 (by decide) ?_
          refine V_iinc dX7_nodeBy_44 rfl (by decide) ?_
          refine V_goto 6 dX7_nodeBy_47 (by decide) ?_
          exact ih (by omega) _ (by rw [lastI_s hi1, ← hf]; first | (rw [if_pos (by simp only [decide_eq_true_eq]; omega)]; done) | (rw [if_neg (by simp only [decide_eq_true_eq]; omega)]; done))
  refine V_bipush dX7_nodeBy_0 (by decide) ?_
  refine V_istore_n dX7_nodeBy_2 (by decide) ?_
  refine V_iconst dX7_nodeBy_3 ?_
  refine V_istore dX7_nodeBy_4 (by decide) ?_
  exact L
theorem c_X7_scopeBy (hB : MB am B) (hr_g : Rng g) {sc nm : Int} (h1 : inr sc) (h2 : inr nm) (hn : 0 ≤ g 6 0 ∧ g 6 0 ≤ 6) (K : Q (vI (oSB g sc nm)) (mkM am B h0 g)) : V E mX7_scopeBy 2 0 0 [some (.ref am), some (vI sc), some (vI nm), none, none] [] (mkM am B h0 g) Q X := by
  obtain ⟨hn0, hn1⟩ := hn
  have L : V E mX7_scopeBy 2 0 6 [some (.ref am), some (vI sc), some (vI nm), some (vI (-9)), some (vI 0)] [] (mkM am B h0 g) Q X := by
    refine loop_upI (P := fun i => ∀ f, f = lastI (fun n => decide (g 4 n = sc ∧ g 5 n = nm)) i → V E mX7_scopeBy 2 0 6 [some (.ref am), some (vI sc), some (vI nm), some (vI f), some (vI i)] [] (mkM am B h0 g) Q X) 0 (g 6 0) (fun i hi1 hi2 ih => ?_) hn0 (-9) lastI_0.symm
    intro f hf
    refine V_iload dX7_scopeBy_6 rfl ?_
    refine V_aload_n dX7_scopeBy_8 rfl ?_
    refine VM_getiE 6 (g 6 0) dX7_scopeBy_9 q2612 (by decide) rfl rfl ?_
    refine V_icmp_ge 50 dX7_scopeBy_12 (by decide) (by first | omega | exact hr_g _ _ | decide) (by first | omega | exact hr_g _ _ | decide) (fun c_12 => ?_) (fun c_12 => ?_)
    · refine V_iload_n dX7_scopeBy_50 rfl ?_
      exact V_iret dX7_scopeBy_51 rfl (by have e : oSB g sc nm = f := (by rw [hf]; unfold oSB sBy; rw [show g 6 0 = i by omega]); rw [← e]; exact K)
    · refine V_aload_n dX7_scopeBy_15 rfl ?_
      refine VM_geta 4 dX7_scopeBy_16 q2610 (by decide) rfl ?_
      refine V_iload dX7_scopeBy_19 rfl ?_
      refine VM_ialdE 4 (g 4 i) hB dX7_scopeBy_21 mar4 rfl (by omega) (by show _ < (6 : Int); omega) (by decide) rfl ?_
      refine V_iload_n dX7_scopeBy_22 rfl ?_
      refine V_icmp_ne 42 dX7_scopeBy_23 (by decide) (by first | omega | exact hr_g _ _ | decide) (by first | omega | exact hr_g _ _ | decide) (fun c_23 => ?_) (fun c_23 => ?_)
      · refine V_iload_n dX7_scopeBy_42 rfl ?_
        refine V_istore_n dX7_scopeBy_43 (by decide) ?_
        refine V_iinc dX7_scopeBy_44 rfl (by decide) ?_
        refine V_goto 6 dX7_scopeBy_47 (by decide) ?_
        exact ih (by omega) _ (by rw [lastI_s hi1, ← hf]; first | (rw [if_pos (by simp only [decide_eq_true_eq]; omega)]; done) | (rw [if_neg (by simp only [decide_eq_true_eq]; omega)]; done))
      · refine V_aload_n dX7_scopeBy_26 rfl ?_
        refine VM_geta 5 dX7_scopeBy_27 q2611 (by decide) rfl ?_
        refine V_iload dX7_scopeBy_30 rfl ?_
        refine VM_ialdE 5 (g 5 i) hB dX7_scopeBy_32 mar5 rfl (by omega) (by show _ < (6 : Int); omega) (by decide) rfl ?_
        refine V_iload_n dX7_scopeBy_33 rfl ?_
        refine V_icmp_ne 42 dX7_scopeBy_34 (by decide) (by first | omega | exact hr_g _ _ | decide) (by first | omega | exact hr_g _ _ | decide) (fun c_34 => ?_) (fun c_34 => ?_)
        · refine V_iload_n dX7_scopeBy_42 rfl ?_
          refine V_istore_n dX7_scopeBy_43 (by decide) ?_
          refine V_iinc dX7_scopeBy_44 rfl (by decide) ?_
          refine V_goto 6 dX7_scopeBy_47 (by decide) ?_
          exact ih (by omega) _ (by rw [lastI_s hi1, ← hf]; first | (rw [if_pos (by simp only [decide_eq_true_eq]; omega)]; done) | (rw [if_neg (by simp only [decide_eq_true_eq]; omega)]; done))
        · refine V_iload dX7_scopeBy_37 rfl ?_
          refine V_goto 43 dX7_scopeBy_39 (by decide) ?_
          refine V_istore_n dX7_scopeBy_43 (by decide) ?_
          refine V_iinc dX7_scopeBy_44 rfl (by decide) ?_
          refine V_goto 6 dX7_scopeBy_47 (by decide) ?_
          exact ih (by omega) _ (by rw [lastI_s hi1, ← hf]; first | (rw [if_pos (by simp only [decide_eq_true_eq]; omega)]; done) | (rw [if_neg (by simp only [decide_eq_true_eq]; omega)]; done))
  refine V_bipush dX7_scopeBy_0 (by decide) ?_
  refine V_istore_n dX7_scopeBy_2 (by decide) ?_
  refine V_iconst dX7_scopeBy_3 ?_
  refine V_istore dX7_scopeBy_4 (by decide) ?_
  exact L
end M2
