/-! THE REFERENCE'S METHODS, part 15: nodes by wires; questions about nodes and scopes -/
theorem xDpN_same {g g' : MG} (e : g' 7 = g 7) (d : Int) : ∀ n, xDpN g' d n = xDpN g d n := by
  intro n
  induction n with
  | zero => rfl
  | succ n ih => unfold xDpN xw; rw [ih, e]
theorem Saf.same {g g' : MG} {d n : Int} (h : Saf g d n) (e7 : g' 7 = g 7) (e8 : g' 8 = g 8) : Saf g' d n := by
  unfold Saf xDp xw xx at *
  simp only [xDpN_same e7, e7, e8]
  exact h
theorem xEvN_same {g g' : MG} (e : g' 7 = g 7) {nv : Int → Int} (d : Int) {sf : Int → Int} : ∀ n, xEvN g' nv d sf n = xEvN g nv d sf n := by
  intro n
  induction n with
  | zero => rfl
  | succ n ih => unfold xEvN xw xx; rw [ih, e]
theorem xVal_same {g g' : MG} {nv : Int → Int} {d : Int} (e7 : g' 7 = g 7) (e8 : g' 8 = g 8) : xVal g' nv d = xVal g nv d := by
  unfold xVal xEv
  rw [xEvN_same e7, e8]
/-- a node's row -/
def NK (g : MG) (n : Int) : Prop := (g 0 (6 * n + 0) = 0 ∧ (0 ≤ g 0 (6 * n + 5) ∧ g 0 (6 * n + 5) < 6 ∧ g 0 (6 * n + 5) < g 2 0) ∧ 1 ≤ g 0 (6 * n + 1) ∧ g 0 (6 * n + 1) ≤ 8 ∨ g 0 (6 * n + 0) = 1 ∧ 0 ≤ g 0 (6 * n + 2) ∧ g 0 (6 * n + 2) < n ∨ g 0 (6 * n + 0) = 2 ∧ (0 ≤ g 0 (6 * n + 5) ∧ g 0 (6 * n + 5) ≤ 3) ∧ Saf g (g 0 (6 * n + 5)) n) ∧ (g 0 (6 * n + 3) = -9 ∨ (0 ≤ g 0 (6 * n + 3) ∧ g 0 (6 * n + 3) < g 6 0)) ∧ 0 ≤ g 0 (6 * n + 4) ∧ g 0 (6 * n + 4) ≤ 25
/-- what is told: nodes, scopes -/
def BI (g : MG) : Prop := (0 ≤ g 1 0 ∧ g 1 0 ≤ 12) ∧ (0 ≤ g 2 0 ∧ g 2 0 ≤ 6) ∧ (0 ≤ g 6 0 ∧ g 6 0 ≤ 6) ∧ (∀ n, 0 ≤ n → n < g 1 0 → NK g n) ∧ (∀ k, 0 ≤ k → k < g 6 0 → (g 4 k = -9 ∨ (0 ≤ g 4 k ∧ g 4 k < k)) ∧ 0 ≤ g 5 k ∧ g 5 k ≤ 25)
theorem NK.same {g g' : MG} {n : Int} (h : NK g n) (e0 : g' 0 = g 0) (e2 : g' 2 = g 2) (e6 : g' 6 = g 6) (e7 : g' 7 = g 7) (e8 : g' 8 = g 8) : NK g' n := by
  unfold NK at *
  rw [e0, e2, e6]
  refine ⟨?_, h.2⟩
  rcases h.1 with a | a | a
  · exact Or.inl a
  · exact Or.inr (Or.inl a)
  · exact Or.inr (Or.inr ⟨a.1, a.2.1, a.2.2.same e7 e8⟩)
theorem BI.same {g g' : MG} (h : BI g) (e : ∀ k, k < 9 → g' k = g k) : BI g' := by
  unfold BI at *
  rw [e 1 (by omega), e 2 (by omega), e 6 (by omega), e 4 (by omega), e 5 (by omega)]
  exact ⟨h.1, h.2.1, h.2.2.1, fun n h1 h2 => (h.2.2.2.1 n h1 h2).same (e 0 (by omega)) (e 2 (by omega)) (e 6 (by omega)) (e 7 (by omega)) (e 8 (by omega)), h.2.2.2.2⟩
/-- what a node is by wires and the nodes ahead of it -/
def nvV (g : MG) (wv f : Int → Int) (n : Int) : Int := if g 0 (6 * n + 0) = 0 then wv (g 0 (6 * n + 5)) else if g 0 (6 * n + 0) = 1 then f (g 0 (6 * n + 2)) else xVal g f (g 0 (6 * n + 5))
def nvN (g : MG) (wv i0 : Int → Int) : Nat → Int → Int
  | 0 => i0
  | n + 1 => aup (nvN g wv i0 n) n (nvV g wv (nvN g wv i0 n) n)
def nvI (g : MG) (wv i0 : Int → Int) (n : Int) : Int → Int := nvN g wv i0 n.toNat
theorem nvI_s {g : MG} {wv i0 : Int → Int} {n : Int} (h : 0 ≤ n) : nvI g wv i0 (n + 1) = aup (nvI g wv i0 n) n (nvV g wv (nvI g wv i0 n) n) := by
  unfold nvI
  rw [show (n + 1).toNat = n.toNat + 1 by omega]
  show aup (nvN g wv i0 n.toNat) (n.toNat : Int) (nvV g wv (nvN g wv i0 n.toNat) (n.toNat : Int)) = _
  rw [show ((n.toNat : Nat) : Int) = n by omega]
/-- what node j is -/
def nv (g : MG) (wv : Int → Int) (j : Int) : Int := nvI g wv (fun _ => 0) (j + 1) j
theorem nvV_c {g : MG} {wv f f' : Int → Int} {n : Int} (h : NK g n) (he : ∀ j, 0 ≤ j → j < n → f j = f' j) : nvV g wv f n = nvV g wv f' n := by
  unfold nvV
  rcases h.1 with a | a | a
  · rw [if_pos a.1, if_pos a.1]
  · rw [if_neg (by omega), if_pos a.1, if_neg (by omega), if_pos a.1]; exact he _ a.2.1 a.2.2
  · rw [if_neg (by omega), if_neg (by omega), if_neg (by omega), if_neg (by omega)]
    exact xVal_c (sf := fun _ => 0) a.2.2 he
theorem nvI_nv {g : MG} {wv i0 : Int → Int} (h : BI g) : ∀ n : Nat, (n : Int) ≤ g 1 0 → ∀ j : Int, 0 ≤ j → j < n → nvN g wv i0 n j = nv g wv j := by
  have key : ∀ n : Nat, (n : Int) ≤ g 1 0 → ∀ i1 i2 : Int → Int, ∀ j : Int, 0 ≤ j → j < n → ∀ m : Nat, (m : Int) ≤ g 1 0 → j < m → nvN g wv i1 n j = nvN g wv i2 m j := by
    intro n
    induction n with
    | zero => intro _ i1 i2 j h1 h2; omega
    | succ n ih =>
      intro hn i1 i2 j h1 h2 m
      induction m with
      | zero => intro _ h3; omega
      | succ m ihm =>
        intro hm h3
        have s1 : ∀ (i : Int → Int) (q : Nat), nvN g wv i (q + 1) j = if j = (q : Int) then nvV g wv (nvN g wv i q) q else nvN g wv i q j := fun _ _ => rfl
        by_cases c2 : j = m
        · rw [s1 i2 m, if_pos c2]
          by_cases c1 : j = n
          · rw [s1 i1 n, if_pos c1]
            have e : m = n := by omega
            subst e
            exact nvV_c (h.2.2.2.1 m (by omega) (by omega)) (fun q q1 q2 => ih (by omega) i1 i2 q q1 q2 m (by omega) q2)
          · rw [s1 i1 n, if_neg c1]
            have := ih (by omega) i1 i2 j h1 (by omega) (m + 1) (by omega) (by omega)
            rw [this, s1 i2 m, if_pos c2]
        · rw [s1 i2 m, if_neg c2]
          exact ihm (by omega) (by omega)
  intro n hn j h1 h2
  unfold nv nvI
  exact key n hn i0 _ j h1 h2 (j + 1).toNat (by omega) (by omega)
section M15
variable {E : Ev} {am : Nat} {B : Nat → Nat} {h0 h : AH} {g : MG} {Q : Value → AH → Prop} {X : Nat → AH → Prop}
theorem c_X7_isNode (hB : MB am B) (hr_g : Rng g) {n : Int} (hn : inr n) (hb : 0 ≤ g 1 0) (Kt : 0 ≤ n ∧ n < g 1 0 → Q (vI 1) (mkM am B h0 g)) (Kf : ¬ (0 ≤ n ∧ n < g 1 0) → Q (vI 0) (mkM am B h0 g)) : V E mX7_isNode 2 0 0 [some (.ref am), some (vI n)] [] (mkM am B h0 g) Q X := by
  have := hr_g 1 0
  refine V_iload_n dX7_isNode_0 rfl ?_
  refine V_iconst dX7_isNode_1 ?_
  refine V_aload_n dX7_isNode_2 rfl ?_
  refine VM_getiE 1 (g 1 0) dX7_isNode_3 q2607 (by decide) rfl rfl ?_
  refine V_iconst dX7_isNode_6 ?_
  refine V_isub dX7_isNode_7 ?_
  refine VS_c3 (M' := mX7_in) okX7_in dX7_isNode_8 q2762 rfl rfl (Nat.le_of_ble_eq_true rfl) (d' := 1) (b1 := 0) (by decide) (by decide) (c_X7_in (by first | omega | exact hr_g _ _ | decide) (by first | omega | exact hr_g _ _ | decide) (by first | omega | exact hr_g _ _ | decide) (fun c_8 => ?_) (fun c_8 => ?_))
  · exact V_zret dX7_isNode_11 rfl (by first | decide | omega) (by first | exact Kt (by omega) | exact Kf (by omega))
  · exact V_zret dX7_isNode_11 rfl (by first | decide | omega) (by first | exact Kt (by omega) | exact Kf (by omega))
theorem c_X7_isWire (hB : MB am B) (hr_g : Rng g) {n : Int} (hn : inr n) (hb : 0 ≤ g 1 0 ∧ g 1 0 ≤ 12) (Kt : (0 ≤ n ∧ n < g 1 0) ∧ g 0 (6 * n + 0) = 0 → Q (vI 1) (mkM am B h0 g)) (Kf : ¬ ((0 ≤ n ∧ n < g 1 0) ∧ g 0 (6 * n + 0) = 0) → Q (vI 0) (mkM am B h0 g)) : V E mX7_isWire 3 0 0 [some (.ref am), some (vI n)] [] (mkM am B h0 g) Q X := by
  refine V_aload_n dX7_isWire_0 rfl ?_
  refine V_iload_n dX7_isWire_1 rfl ?_
  refine VM_c1 (M' := mX7_isNode) okX7_isNode rfl dX7_isWire_2 q2872 rfl rfl (Nat.le_of_ble_eq_true rfl) (d' := 2) (b1 := 0) (by decide) (by decide) (c_X7_isNode hB hr_g (by first | omega | exact hr_g _ _ | decide) (by first | omega | (simp [gup, aup]; omega)) (fun c_2 => ?_) (fun c_2 => ?_))
  · refine V_if_eq 21 dX7_isWire_5 (by decide) (by first | omega | exact hr_g _ _ | decide) (fun c_5 => absurd c_5 (by decide)) (fun c_5 => ?_)
    refine V_aload_n dX7_isWire_8 rfl ?_
    refine V_iload_n dX7_isWire_9 rfl ?_
    refine V_iconst dX7_isWire_10 ?_
    refine VM_c2 (M' := mX7_of) okX7_of rfl dX7_isWire_11 q2860 rfl rfl (Nat.le_of_ble_eq_true rfl) (d' := 1) (b1 := 0) (by decide) (by decide) (c_X7_of hB (by first | omega | (simp [gup, aup]; omega)) (by first | omega | (simp [gup, aup]; omega)) ?_)
    refine V_top (g 0 (6 * n + 0)) (by exact rfl) ?_
    refine V_if_ne 21 dX7_isWire_14 (by decide) (by first | omega | exact hr_g _ _ | decide) (fun c_14 => ?_) (fun c_14 => ?_)
    · refine V_iconst dX7_isWire_21 ?_
      exact V_zret dX7_isWire_22 rfl (by first | decide | omega) (by first | exact Kt (by omega) | exact Kf (by omega))
    · refine V_iconst dX7_isWire_17 ?_
      refine V_goto 22 dX7_isWire_18 (by decide) ?_
      exact V_zret dX7_isWire_22 rfl (by first | decide | omega) (by first | exact Kt (by omega) | exact Kf (by omega))
  · refine V_if_eq 21 dX7_isWire_5 (by decide) (by first | omega | exact hr_g _ _ | decide) (fun c_5 => ?_) (fun c_5 => absurd c_5 (by decide))
    refine V_iconst dX7_isWire_21 ?_
    exact V_zret dX7_isWire_22 rfl (by first | decide | omega) (by first | exact Kt (by omega) | exact Kf (by omega))
theorem nvI_r (hr : Rng g) {wv i0 : Int → Int} (hw : ∀ j, inr (wv j)) (hi : ∀ j, inr (i0 j)) (n : Int) : ∀ j, inr (nvI g wv i0 n j) := by
  unfold nvI
  generalize n.toNat = m
  induction m with
  | zero => exact hi
  | succ m ih =>
    intro j
    unfold nvN
    simp only [aup]
    split
    · unfold nvV
      split
      · exact hw _
      · split
        · exact ih _
        · unfold xVal; exact xEv_r hr (fun _ => by decide) ih _ _
    · exact ih _
theorem c_X7_laysNodes (hB : MB am B) (hr_g : Rng g) (hb : BI g) (K : ∀ s : Int → Int, (∀ j, inr (s j)) → Q .null (mkM am B h0 (gset (gset g 36 (nvI g (g 38) (g 36) (g 1 0))) 37 s))) : V E mX7_laysNodes 3 0 0 [some (.ref am), none] [] (mkM am B h0 g) Q X := by
  have hb1 := hb.1
  have L : ∀ s : Int → Int, (∀ j, inr (s j)) → V E mX7_laysNodes 3 0 2 [some (.ref am), some (vI 0)] [] (mkM am B h0 (gset (gset g 36 (nvI g (g 38) (g 36) 0)) 37 s)) Q X := by
    refine loop_upI (P := fun n => ∀ s : Int → Int, (∀ j, inr (s j)) → V E mX7_laysNodes 3 0 2 [some (.ref am), some (vI n)] [] (mkM am B h0 (gset (gset g 36 (nvI g (g 38) (g 36) n)) 37 s)) Q X) 0 (g 1 0) (fun n h1 h2 ih => ?_) hb1.1
    intro s hs
    by_cases hk : n = g 1 0
    · subst hk
      refine V_iload_n dX7_laysNodes_2 rfl ?_
      refine V_aload_n dX7_laysNodes_3 rfl ?_
      refine VM_getiE 1 (g 1 0) dX7_laysNodes_4 q2607 (by decide) rfl rfl ?_
      refine V_icmp_ge 79 dX7_laysNodes_7 (by decide) (by first | omega | exact hr_g _ _ | decide) (by first | omega | exact hr_g _ _ | decide) (fun c_7 => ?_) (fun c_7 => by exfalso; omega)
      exact V_vret dX7_laysNodes_79 rfl (by exact K s hs)
    · have hlt : n < g 1 0 := by omega
      have hNK := hb.2.2.2.1 n h1 hlt
      have ih' := ih hlt
      rw [nvI_s h1] at ih'
      have hrF := nvI_r hr_g (hr_g 38) (hr_g 36) n
      generalize nvI g (g 38) (g 36) n = F at *
      have hr2 : Rng (gset (gset g 36 F) 37 s) := (hr_g.set hrF).set hs
      unfold nvV at ih'
      rcases hNK.1 with a | a | a
      · rw [if_pos a.1] at ih'
        refine V_iload_n dX7_laysNodes_2 rfl ?_
        refine V_aload_n dX7_laysNodes_3 rfl ?_
        refine VM_getiE 1 (g 1 0) dX7_laysNodes_4 q2607 (by decide) rfl rfl ?_
        refine V_icmp_ge 79 dX7_laysNodes_7 (by decide) (by first | omega | exact hr_g _ _ | decide) (by first | omega | exact hr_g _ _ | decide) (fun c_7 => by exfalso; omega) (fun c_7 => ?_)
        refine V_aload_n dX7_laysNodes_10 rfl ?_
        refine VM_geta 36 dX7_laysNodes_11 q2642 (by decide) rfl ?_
        refine V_iload_n dX7_laysNodes_14 rfl ?_
        refine V_aload_n dX7_laysNodes_15 rfl ?_
        refine V_iload_n dX7_laysNodes_16 rfl ?_
        refine V_iconst dX7_laysNodes_17 ?_
        refine VM_c2 (M' := mX7_of) okX7_of rfl dX7_laysNodes_18 q2860 rfl rfl (Nat.le_of_ble_eq_true rfl) (d' := 1) (b1 := 0) (by decide) (by decide) (c_X7_of hB (by first | omega | (simp [gup, aup]; omega)) (by first | omega | (simp [gup, aup]; omega)) ?_)
        refine V_top (g 0 (6 * n + 0)) (by exact rfl) ?_
        refine V_if_ne 38 dX7_laysNodes_21 (by decide) (by first | omega | exact hr_g _ _ | decide) (fun c_21 => by exfalso; omega) (fun c_21 => ?_)
        refine V_aload_n dX7_laysNodes_24 rfl ?_
        refine VM_geta 38 dX7_laysNodes_25 q2644 (by decide) rfl ?_
        refine V_aload_n dX7_laysNodes_28 rfl ?_
        refine V_iload_n dX7_laysNodes_29 rfl ?_
        refine V_iconst dX7_laysNodes_30 ?_
        refine VM_c2 (M' := mX7_of) okX7_of rfl dX7_laysNodes_31 q2860 rfl rfl (Nat.le_of_ble_eq_true rfl) (d' := 1) (b1 := 0) (by decide) (by decide) (c_X7_of hB (by first | omega | (simp [gup, aup]; omega)) (by first | omega | (simp [gup, aup]; omega)) ?_)
        refine V_top (g 0 (6 * n + 5)) (by exact rfl) ?_
        refine VM_ialdE 38 (g 38 (g 0 (6 * n + 5))) hB dX7_laysNodes_34 mar38 rfl (by first | omega | (simp [gup, aup]; omega)) (by show _ < (6 : Int); first | omega | (simp [gup, aup]; omega)) (by decide) rfl ?_
        refine V_goto 72 dX7_laysNodes_35 (by decide) ?_
        refine VM_iast 36 hB dX7_laysNodes_72 mar36 rfl mfa36 (by first | omega | (simp [gup, aup]; omega)) (by show _ < (12 : Int); first | omega | (simp [gup, aup]; omega)) (by decide) ?_
        refine V_iinc dX7_laysNodes_73 rfl (by decide) ?_
        refine V_goto 2 dX7_laysNodes_76 (by decide) ?_
        rw [gset_gset_c (k := 36) (by decide), gset_up, gset_gset_c (k := 37) (by decide)]; exact ih' s hs
      · rw [if_neg (by omega), if_pos a.1] at ih'
        refine V_iload_n dX7_laysNodes_2 rfl ?_
        refine V_aload_n dX7_laysNodes_3 rfl ?_
        refine VM_getiE 1 (g 1 0) dX7_laysNodes_4 q2607 (by decide) rfl rfl ?_
        refine V_icmp_ge 79 dX7_laysNodes_7 (by decide) (by first | omega | exact hr_g _ _ | decide) (by first | omega | exact hr_g _ _ | decide) (fun c_7 => by exfalso; omega) (fun c_7 => ?_)
        refine V_aload_n dX7_laysNodes_10 rfl ?_
        refine VM_geta 36 dX7_laysNodes_11 q2642 (by decide) rfl ?_
        refine V_iload_n dX7_laysNodes_14 rfl ?_
        refine V_aload_n dX7_laysNodes_15 rfl ?_
        refine V_iload_n dX7_laysNodes_16 rfl ?_
        refine V_iconst dX7_laysNodes_17 ?_
        refine VM_c2 (M' := mX7_of) okX7_of rfl dX7_laysNodes_18 q2860 rfl rfl (Nat.le_of_ble_eq_true rfl) (d' := 1) (b1 := 0) (by decide) (by decide) (c_X7_of hB (by first | omega | (simp [gup, aup]; omega)) (by first | omega | (simp [gup, aup]; omega)) ?_)
        refine V_top (g 0 (6 * n + 0)) (by exact rfl) ?_
        refine V_if_ne 38 dX7_laysNodes_21 (by decide) (by first | omega | exact hr_g _ _ | decide) (fun c_21 => ?_) (fun c_21 => by exfalso; omega)
        refine V_aload_n dX7_laysNodes_38 rfl ?_
        refine V_iload_n dX7_laysNodes_39 rfl ?_
        refine V_iconst dX7_laysNodes_40 ?_
        refine VM_c2 (M' := mX7_of) okX7_of rfl dX7_laysNodes_41 q2860 rfl rfl (Nat.le_of_ble_eq_true rfl) (d' := 1) (b1 := 0) (by decide) (by decide) (c_X7_of hB (by first | omega | (simp [gup, aup]; omega)) (by first | omega | (simp [gup, aup]; omega)) ?_)
        refine V_top (g 0 (6 * n + 0)) (by exact rfl) ?_
        refine V_iconst dX7_laysNodes_44 ?_
        refine V_icmp_ne 62 dX7_laysNodes_45 (by decide) (by first | omega | exact hr_g _ _ | decide) (by first | omega | exact hr_g _ _ | decide) (fun c_45 => by exfalso; omega) (fun c_45 => ?_)
        refine V_aload_n dX7_laysNodes_48 rfl ?_
        refine VM_geta 36 dX7_laysNodes_49 q2642 (by decide) rfl ?_
        refine V_aload_n dX7_laysNodes_52 rfl ?_
        refine V_iload_n dX7_laysNodes_53 rfl ?_
        refine V_iconst dX7_laysNodes_54 ?_
        refine VM_c2 (M' := mX7_of) okX7_of rfl dX7_laysNodes_55 q2860 rfl rfl (Nat.le_of_ble_eq_true rfl) (d' := 1) (b1 := 0) (by decide) (by decide) (c_X7_of hB (by first | omega | (simp [gup, aup]; omega)) (by first | omega | (simp [gup, aup]; omega)) ?_)
        refine V_top (g 0 (6 * n + 2)) (by exact rfl) ?_
        refine VM_ialdE 36 (F (g 0 (6 * n + 2))) hB dX7_laysNodes_58 mar36 rfl (by first | omega | (simp [gup, aup]; omega)) (by show _ < (12 : Int); first | omega | (simp [gup, aup]; omega)) (by decide) rfl ?_
        refine V_goto 72 dX7_laysNodes_59 (by decide) ?_
        refine VM_iast 36 hB dX7_laysNodes_72 mar36 rfl mfa36 (by first | omega | (simp [gup, aup]; omega)) (by show _ < (12 : Int); first | omega | (simp [gup, aup]; omega)) (by decide) ?_
        refine V_iinc dX7_laysNodes_73 rfl (by decide) ?_
        refine V_goto 2 dX7_laysNodes_76 (by decide) ?_
        rw [gset_gset_c (k := 36) (by decide), gset_up, gset_gset_c (k := 37) (by decide)]; exact ih' s hs
      · rw [if_neg (by omega), if_neg (by omega)] at ih'
        have hS : Saf (gset (gset g 36 F) 37 s) (g 0 (6 * n + 5)) n := a.2.2.same rfl rfl
        have hx : xVal (gset (gset g 36 F) 37 s) (gset (gset g 36 F) 37 s 36) (g 0 (6 * n + 5)) = xVal g F (g 0 (6 * n + 5)) := xVal_same rfl rfl
        have hxr : inr (xVal g F (g 0 (6 * n + 5))) := by unfold xVal; exact xEv_r hr_g (fun _ => by decide) hrF _ _
        have hs3 := xEv_r (nv := F) (d := g 0 (6 * n + 5)) (sf := s) hr2 hs hrF ((gset (gset g 36 F) 37 s) 8 (g 0 (6 * n + 5)))
        refine V_iload_n dX7_laysNodes_2 rfl ?_
        refine V_aload_n dX7_laysNodes_3 rfl ?_
        refine VM_getiE 1 (g 1 0) dX7_laysNodes_4 q2607 (by decide) rfl rfl ?_
        refine V_icmp_ge 79 dX7_laysNodes_7 (by decide) (by first | omega | exact hr_g _ _ | decide) (by first | omega | exact hr_g _ _ | decide) (fun c_7 => by exfalso; omega) (fun c_7 => ?_)
        refine V_aload_n dX7_laysNodes_10 rfl ?_
        refine VM_geta 36 dX7_laysNodes_11 q2642 (by decide) rfl ?_
        refine V_iload_n dX7_laysNodes_14 rfl ?_
        refine V_aload_n dX7_laysNodes_15 rfl ?_
        refine V_iload_n dX7_laysNodes_16 rfl ?_
        refine V_iconst dX7_laysNodes_17 ?_
        refine VM_c2 (M' := mX7_of) okX7_of rfl dX7_laysNodes_18 q2860 rfl rfl (Nat.le_of_ble_eq_true rfl) (d' := 1) (b1 := 0) (by decide) (by decide) (c_X7_of hB (by first | omega | (simp [gup, aup]; omega)) (by first | omega | (simp [gup, aup]; omega)) ?_)
        refine V_top (g 0 (6 * n + 0)) (by exact rfl) ?_
        refine V_if_ne 38 dX7_laysNodes_21 (by decide) (by first | omega | exact hr_g _ _ | decide) (fun c_21 => ?_) (fun c_21 => by exfalso; omega)
        refine V_aload_n dX7_laysNodes_38 rfl ?_
        refine V_iload_n dX7_laysNodes_39 rfl ?_
        refine V_iconst dX7_laysNodes_40 ?_
        refine VM_c2 (M' := mX7_of) okX7_of rfl dX7_laysNodes_41 q2860 rfl rfl (Nat.le_of_ble_eq_true rfl) (d' := 1) (b1 := 0) (by decide) (by decide) (c_X7_of hB (by first | omega | (simp [gup, aup]; omega)) (by first | omega | (simp [gup, aup]; omega)) ?_)
        refine V_top (g 0 (6 * n + 0)) (by exact rfl) ?_
        refine V_iconst dX7_laysNodes_44 ?_
        refine V_icmp_ne 62 dX7_laysNodes_45 (by decide) (by first | omega | exact hr_g _ _ | decide) (by first | omega | exact hr_g _ _ | decide) (fun c_45 => ?_) (fun c_45 => by exfalso; omega)
        refine V_aload_n dX7_laysNodes_62 rfl ?_
        refine V_aload_n dX7_laysNodes_63 rfl ?_
        refine V_iload_n dX7_laysNodes_64 rfl ?_
        refine V_iconst dX7_laysNodes_65 ?_
        refine VM_c2 (M' := mX7_of) okX7_of rfl dX7_laysNodes_66 q2860 rfl rfl (Nat.le_of_ble_eq_true rfl) (d' := 1) (b1 := 0) (by decide) (by decide) (c_X7_of hB (by first | omega | (simp [gup, aup]; omega)) (by first | omega | (simp [gup, aup]; omega)) ?_)
        refine V_top (g 0 (6 * n + 5)) (by exact rfl) ?_
        refine VM_c1 (M' := mX7_expressed) okX7_expressed rfl dX7_laysNodes_69 q2880 rfl rfl (Nat.le_of_ble_eq_true rfl) (d' := 2) (b1 := 0) (by decide) (by decide) (c_X7_expressed hB hr2 a.2.1 (by omega) hS ?_)
        refine V_top (xVal (gset (gset g 36 F) 37 s) (gset (gset g 36 F) 37 s 36) (g 0 (6 * n + 5))) (by exact rfl) ?_
        refine VM_iast 36 hB dX7_laysNodes_72 mar36 rfl mfa36 (by first | omega | (simp [gup, aup]; omega)) (by show _ < (12 : Int); first | omega | (simp [gup, aup]; omega)) (by decide) ?_
        refine V_iinc dX7_laysNodes_73 rfl (by decide) ?_
        refine V_goto 2 dX7_laysNodes_76 (by decide) ?_
        rw [gset_gset, hx, gset_gset_c (k := 36) (by decide), gset_up, gset_gset_c (k := 37) (by decide)]; exact ih' _ hs3
  have e0 : gset (gset g 36 (nvI g (g 38) (g 36) 0)) 37 (g 37) = g := by
    show gset (gset g 36 (g 36)) 37 (g 37) = g
    rw [gset_self, gset_self]
  have L' := L (g 37) (hr_g 37)
  rw [e0] at L'
  refine V_iconst dX7_laysNodes_0 ?_
  refine V_istore_n dX7_laysNodes_1 (by decide) ?_
  exact L'
end M15
