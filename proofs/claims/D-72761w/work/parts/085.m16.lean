/-! THE REFERENCE'S METHODS, part 16: what is told, as it is asked for; the text -/
/-- what is kept between calls is the same -/
def Sm (g g' : MG) : Prop := (∀ k, (k < 16 ∨ 47 < k) → g' k = g k) ∧ Rng g'
theorem Sm.rfl' {g : MG} (h : Rng g) : Sm g g := ⟨fun _ _ => rfl, h⟩
theorem Sm.tr {g g' g'' : MG} (h : Sm g g') (h' : Sm g' g'') : Sm g g'' := ⟨fun k hk => (h'.1 k hk).trans (h.1 k hk), h'.2⟩
theorem Sm.set {g g' : MG} (h : Sm g g') {k : Nat} {f : Int → Int} (hk : 16 ≤ k ∧ k ≤ 47) (hf : ∀ i, inr (f i)) : Sm g (gset g' k f) := ⟨fun j hj => by rw [gset_ne (by omega)]; exact h.1 j hj, h.2.set hf⟩
theorem Sm.up {g g' : MG} (h : Sm g g') {k : Nat} {i v : Int} (hk : 16 ≤ k ∧ k ≤ 47) (hv : inr v) : Sm g (gup g' k i v) := ⟨fun j hj => by rw [gup_ne (by omega)]; exact h.1 j hj, h.2.up hv⟩
def aScope (g : MG) (k w : Int) : Int := if (0 ≤ k ∧ k < g 6 0) ∧ (w = 0 ∨ w = 1) then (if w = 0 then g 4 k else g 5 k) else -1
/-- what a node is now -/
def wvN (s : Int → Int) : Int → Int := acp (fun _ => 0) s 0 6 5
def aAbout (g : MG) (n w : Int) : Int := if (0 ≤ n ∧ n < g 1 0) ∧ (0 ≤ w ∧ w ≤ 5) then (if w = 5 then nv g (fun j => g 9 (j + 5)) n else g 0 (6 * n + w)) else -1
def aLisN (g : MG) (sc : Int) : Nat → Int → Int
  | 0, _ => -9
  | f + 1, left => let name := 25 - (f : Int); if oNB g sc name ≠ -9 ∨ oSB g sc name ≠ -9 then (if left = 0 then (if oNB g sc name ≠ -9 then oNB g sc name else 100 + oSB g sc name) else aLisN g sc f (left - 1)) else aLisN g sc f left
def aListed (g : MG) (k i : Int) : Int := if (-1 ≤ k ∧ k < g 6 0) ∧ 0 ≤ i then aLisN g (if k < 0 then -9 else k) 26 i else -1
theorem nvI_c {g : MG} {wv wv' i0 : Int → Int} (h : BI g) (he : ∀ j, 0 ≤ j → j < 6 → wv j = wv' j) : ∀ n : Nat, (n : Int) ≤ g 1 0 → nvN g wv i0 n = nvN g wv' i0 n := by
  intro n
  induction n with
  | zero => intro _; rfl
  | succ n ih =>
    intro hn
    unfold nvN
    rw [ih (by omega)]
    have hk := h.2.2.2.1 n (by omega) (by omega)
    have : nvV g wv (nvN g wv' i0 n) n = nvV g wv' (nvN g wv' i0 n) n := by
      unfold nvV
      rcases hk.1 with a | a | a
      · rw [if_pos a.1, if_pos a.1]; exact he _ a.2.1.1 a.2.1.2.1
      · have : g 0 (6 * (n : Int) + 0) ≠ 0 := by omega
        simp only [if_neg this]
      · have : g 0 (6 * (n : Int) + 0) ≠ 0 := by omega
        simp only [if_neg this]
    rw [this]
theorem nv_c {g : MG} {wv wv' : Int → Int} (h : BI g) (he : ∀ j, 0 ≤ j → j < 6 → wv j = wv' j) {n : Int} (h1 : 0 ≤ n) (h2 : n < g 1 0) : nv g wv n = nv g wv' n := by
  unfold nv nvI
  rw [nvI_c h he (n + 1).toNat (by omega)]
theorem nvI_at {g : MG} {wv i0 : Int → Int} (h : BI g) {n : Int} (h1 : 0 ≤ n) (h2 : n < g 1 0) : nvI g wv i0 (g 1 0) n = nv g wv n := by
  unfold nvI
  have := h.1
  exact nvI_nv h (g 1 0).toNat (by omega) n h1 (by omega)
theorem nvN_same {g g' : MG} (h : BI g) (e : ∀ k, k < 9 → g' k = g k) {wv i0 : Int → Int} : ∀ n : Nat, (n : Int) ≤ g 1 0 → nvN g' wv i0 n = nvN g wv i0 n := by
  intro n
  induction n with
  | zero => intro _; rfl
  | succ n ih =>
    intro hn
    unfold nvN
    rw [ih (by omega)]
    have : nvV g' wv (nvN g wv i0 n) n = nvV g wv (nvN g wv i0 n) n := by
      unfold nvV
      rw [e 0 (by omega), xVal_same (e 7 (by omega)) (e 8 (by omega))]
    rw [this]
theorem nv_same {g g' : MG} (h : BI g) (e : ∀ k, k < 9 → g' k = g k) {wv : Int → Int} {n : Int} (h1 : 0 ≤ n) (h2 : n < g 1 0) : nv g' wv n = nv g wv n := by
  unfold nv nvI
  rw [nvN_same h e (n + 1).toNat (by omega)]
section M16
variable {E : Ev} {am : Nat} {B : Nat → Nat} {h0 h : AH} {g : MG} {Q : Value → AH → Prop} {X : Nat → AH → Prop}
theorem c_X7_scope (hB : MB am B) (hr_g : Rng g) {k w : Int} (hk : inr k) (hw : inr w) (hb : 0 ≤ g 6 0 ∧ g 6 0 ≤ 6) (K : Q (vI (aScope g k w)) (mkM am B h0 g)) : V E mX7_scope 2 0 0 [some (.ref am), some (vI k), some (vI w)] [] (mkM am B h0 g) Q X := by
  unfold aScope at K
  refine V_iload_n dX7_scope_0 rfl ?_
  refine V_iconst dX7_scope_1 ?_
  refine V_aload_n dX7_scope_2 rfl ?_
  refine VM_getiE 6 (g 6 0) dX7_scope_3 q2612 (by decide) rfl rfl ?_
  refine V_iconst dX7_scope_6 ?_
  refine V_isub dX7_scope_7 ?_
  refine VS_c3 (M' := mX7_in) okX7_in dX7_scope_8 q2762 rfl rfl (Nat.le_of_ble_eq_true rfl) (d' := 1) (b1 := 0) (by decide) (by decide) (c_X7_in (by first | omega | exact hr_g _ _ | decide) (by first | omega | exact hr_g _ _ | decide) (by first | omega | exact hr_g _ _ | decide) (fun c_8 => ?_) (fun c_8 => ?_))
  · refine V_if_eq 23 dX7_scope_11 (by decide) (by first | omega | exact hr_g _ _ | decide) (fun c_11 => absurd c_11 (by decide)) (fun c_11 => ?_)
    refine V_iload_n dX7_scope_14 rfl ?_
    refine V_iconst dX7_scope_15 ?_
    refine V_iconst dX7_scope_16 ?_
    refine VS_c3 (M' := mX7_in) okX7_in dX7_scope_17 q2762 rfl rfl (Nat.le_of_ble_eq_true rfl) (d' := 1) (b1 := 0) (by decide) (by decide) (c_X7_in (by first | omega | exact hr_g _ _ | decide) (by first | omega | exact hr_g _ _ | decide) (by first | omega | exact hr_g _ _ | decide) (fun c_17 => ?_) (fun c_17 => ?_))
    · refine V_if_ne 25 dX7_scope_20 (by decide) (by first | omega | exact hr_g _ _ | decide) (fun c_20 => ?_) (fun c_20 => absurd c_20 (by decide))
      refine V_iload_n dX7_scope_25 rfl ?_
      refine V_if_ne 38 dX7_scope_26 (by decide) (by first | omega | exact hr_g _ _ | decide) (fun c_26 => ?_) (fun c_26 => ?_)
      · refine V_aload_n dX7_scope_38 rfl ?_
        refine VM_geta 5 dX7_scope_39 q2611 (by decide) rfl ?_
        refine V_iload_n dX7_scope_42 rfl ?_
        refine VM_ialdE 5 (g 5 k) hB dX7_scope_43 mar5 rfl (by first | omega | (simp [gup, aup]; omega)) (by show _ < (6 : Int); first | omega | (simp [gup, aup]; omega)) (by decide) rfl ?_
        exact V_iret dX7_scope_44 rfl (by first | (rw [if_neg (by omega)] at K; exact K) | (rw [if_pos (by omega), if_pos (by omega)] at K; exact K) | (rw [if_pos (by omega), if_neg (by omega)] at K; exact K))
      · refine V_aload_n dX7_scope_29 rfl ?_
        refine VM_geta 4 dX7_scope_30 q2610 (by decide) rfl ?_
        refine V_iload_n dX7_scope_33 rfl ?_
        refine VM_ialdE 4 (g 4 k) hB dX7_scope_34 mar4 rfl (by first | omega | (simp [gup, aup]; omega)) (by show _ < (6 : Int); first | omega | (simp [gup, aup]; omega)) (by decide) rfl ?_
        refine V_goto 44 dX7_scope_35 (by decide) ?_
        exact V_iret dX7_scope_44 rfl (by first | (rw [if_neg (by omega)] at K; exact K) | (rw [if_pos (by omega), if_pos (by omega)] at K; exact K) | (rw [if_pos (by omega), if_neg (by omega)] at K; exact K))
    · refine V_if_ne 25 dX7_scope_20 (by decide) (by first | omega | exact hr_g _ _ | decide) (fun c_20 => absurd c_20 (by decide)) (fun c_20 => ?_)
      refine V_iconst dX7_scope_23 ?_
      exact V_iret dX7_scope_24 rfl (by first | (rw [if_neg (by omega)] at K; exact K) | (rw [if_pos (by omega), if_pos (by omega)] at K; exact K) | (rw [if_pos (by omega), if_neg (by omega)] at K; exact K))
  · refine V_if_eq 23 dX7_scope_11 (by decide) (by first | omega | exact hr_g _ _ | decide) (fun c_11 => ?_) (fun c_11 => absurd c_11 (by decide))
    refine V_iconst dX7_scope_23 ?_
    exact V_iret dX7_scope_24 rfl (by first | (rw [if_neg (by omega)] at K; exact K) | (rw [if_pos (by omega), if_pos (by omega)] at K; exact K) | (rw [if_pos (by omega), if_neg (by omega)] at K; exact K))
theorem c_X7_laysNodes' (hB : MB am B) (hr_g : Rng g) (hb : BI g) (K : ∀ F S : Int → Int, (∀ j, 0 ≤ j → j < g 1 0 → F j = nv g (g 38) j) → (∀ j, inr (F j)) → (∀ j, inr (S j)) → Q .null (mkM am B h0 (gset (gset g 36 F) 37 S))) : V E mX7_laysNodes 3 0 0 [some (.ref am), none] [] (mkM am B h0 g) Q X :=
  c_X7_laysNodes hB hr_g hb (fun s hs => K _ s (fun _ h1 h2 => nvI_at hb h1 h2) (nvI_r hr_g (hr_g 38) (hr_g 36) _) hs)
theorem c_X7_about (hB : MB am B) (hr_g : Rng g) {n w : Int} (hn : inr n) (hw : inr w) (hb : BI g) (K : ∀ g', Sm g g' → Q (vI (aAbout g n w)) (mkM am B h0 g')) : V E mX7_about 4 0 0 [some (.ref am), some (vI n), some (vI w), none] [] (mkM am B h0 g) Q X := by
  have hb1 := hb.1
  have K0 := K g (Sm.rfl' hr_g)
  unfold aAbout at K K0
  by_cases hw5 : w = 5
  · subst hw5
    by_cases hN : 0 ≤ n ∧ n < g 1 0
    · have L : V E mX7_about 4 0 26 [some (.ref am), some (vI n), some (vI 5), some (vI 0)] [] (mkM am B h0 (gset g 38 (acp (g 38) (g 9) 0 0 5))) Q X := by
        refine loop_upI (P := fun i => V E mX7_about 4 0 26 [some (.ref am), some (vI n), some (vI 5), some (vI i)] [] (mkM am B h0 (gset g 38 (acp (g 38) (g 9) 0 i 5))) Q X) 0 6 (fun i h1 h2 ih => ?_) (by omega)
        have hrA : Rng (gset g 38 (acp (g 38) (g 9) 0 i 5)) := hr_g.set (acp_r (hr_g 38) (hr_g 9))
        by_cases hi : i = 6
        · subst hi
          refine V_iload_n dX7_about_26 rfl ?_
          refine V_bipush dX7_about_27 (by decide) ?_
          refine V_icmp_ge 52 dX7_about_29 (by decide) (by first | omega | exact hr_g _ _ | decide) (by first | omega | exact hr_g _ _ | decide) (fun c_29 => ?_) (fun c_29 => absurd c_29 (by decide))
          refine V_aload_n dX7_about_52 rfl ?_
          refine VM_v0 (M' := mX7_laysNodes) okX7_laysNodes rfl dX7_about_53 q2876 rfl rfl (Nat.le_of_ble_eq_true rfl) (d' := 3) (b1 := 0) (by decide) (by decide) (c_X7_laysNodes' hB hrA (hb.same (fun k hk => gset_ne (by omega))) (fun F S hF hFr hSr => ?_))
          refine V_aload_n dX7_about_56 rfl ?_
          refine VM_geta 36 dX7_about_57 q2642 (by decide) rfl ?_
          refine V_iload_n dX7_about_60 rfl ?_
          refine VM_ialdE 36 (((gset (gset (gset g 38 (acp (g 38) (g 9) 0 6 5)) 36 F) 37 S)) 36 n) hB dX7_about_61 mar36 rfl (by first | omega | (simp [gup, aup]; omega)) (by show _ < (12 : Int); first | omega | (simp [gup, aup]; omega)) (by decide) rfl ?_
          exact V_iret dX7_about_62 rfl (by rw [if_pos ⟨hN, by omega⟩, if_pos rfl, nv_c hb (wv' := acp (g 38) (g 9) 0 6 5) (fun j j1 j2 => by unfold acp; rw [if_pos (by omega)]) hN.1 hN.2, ← nv_same (g' := gset g 38 (acp (g 38) (g 9) 0 6 5)) hb (fun k hk => gset_ne (by omega)) hN.1 hN.2, show nv (gset g 38 (acp (g 38) (g 9) 0 6 5)) (acp (g 38) (g 9) 0 6 5) n = F n from (hF n hN.1 hN.2).symm] at K; exact K _ ((((Sm.rfl' hr_g).set (by omega) (acp_r (hr_g 38) (hr_g 9))).set (by omega) hFr).set (by omega) hSr))
        · refine V_iload_n dX7_about_26 rfl ?_
          refine V_bipush dX7_about_27 (by decide) ?_
          refine V_icmp_ge 52 dX7_about_29 (by decide) (by first | omega | exact hr_g _ _ | decide) (by first | omega | exact hr_g _ _ | decide) (fun c_29 => by exfalso; omega) (fun c_29 => ?_)
          refine V_aload_n dX7_about_32 rfl ?_
          refine VM_geta 38 dX7_about_33 q2644 (by decide) rfl ?_
          refine V_iload_n dX7_about_36 rfl ?_
          refine V_aload_n dX7_about_37 rfl ?_
          refine VM_geta 9 dX7_about_38 q2615 (by decide) rfl ?_
          refine V_iconst dX7_about_41 ?_
          refine V_iload_n dX7_about_42 rfl ?_
          refine V_iadd dX7_about_43 ?_
          refine VM_ialdE 9 (g 9 (5 + i)) hB dX7_about_44 mar9 rfl (by first | omega | (simp [gup, aup]; omega)) (by show _ < (209 : Int); first | omega | (simp [gup, aup]; omega)) (by decide) rfl ?_
          refine VM_iast 38 hB dX7_about_45 mar38 rfl mfa38 (by first | omega | (simp [gup, aup]; omega)) (by show _ < (6 : Int); first | omega | (simp [gup, aup]; omega)) (by decide) ?_
          refine V_iinc dX7_about_46 rfl (by decide) ?_
          refine V_goto 26 dX7_about_49 (by decide) ?_
          rw [gset_up, show (5 : Int) + i = i + 5 by omega, acp_s h1]; exact ih (by omega)
      rw [acp_0, gset_self] at L
      refine V_aload_n dX7_about_0 rfl ?_
      refine V_iload_n dX7_about_1 rfl ?_
      refine VM_c1 (M' := mX7_isNode) okX7_isNode rfl dX7_about_2 q2872 rfl rfl (Nat.le_of_ble_eq_true rfl) (d' := 2) (b1 := 0) (by decide) (by decide) (c_X7_isNode hB hr_g (by first | omega | exact hr_g _ _ | decide) (by first | omega | (simp [gup, aup]; omega)) (fun c_2 => ?_) (fun c_2 => ?_))
      · refine V_if_eq 17 dX7_about_5 (by decide) (by first | omega | exact hr_g _ _ | decide) (fun c_5 => absurd c_5 (by decide)) (fun c_5 => ?_)
        refine V_iload_n dX7_about_8 rfl ?_
        refine V_iconst dX7_about_9 ?_
        refine V_iconst dX7_about_10 ?_
        refine VS_c3 (M' := mX7_in) okX7_in dX7_about_11 q2762 rfl rfl (Nat.le_of_ble_eq_true rfl) (d' := 1) (b1 := 0) (by decide) (by decide) (c_X7_in (by first | omega | exact hr_g _ _ | decide) (by first | omega | exact hr_g _ _ | decide) (by first | omega | exact hr_g _ _ | decide) (fun c_11 => ?_) (fun c_11 => ?_))
        · refine V_if_ne 19 dX7_about_14 (by decide) (by first | omega | exact hr_g _ _ | decide) (fun c_14 => ?_) (fun c_14 => absurd c_14 (by decide))
          refine V_iload_n dX7_about_19 rfl ?_
          refine V_iconst dX7_about_20 ?_
          refine V_icmp_ne 63 dX7_about_21 (by decide) (by first | omega | exact hr_g _ _ | decide) (by first | omega | exact hr_g _ _ | decide) (fun c_21 => absurd c_21 (by decide)) (fun c_21 => ?_)
          refine V_iconst dX7_about_24 ?_
          refine V_istore_n dX7_about_25 (by decide) ?_
          exact L
        · refine V_if_ne 19 dX7_about_14 (by decide) (by first | omega | exact hr_g _ _ | decide) (fun c_14 => absurd c_14 (by decide)) (fun c_14 => ?_)
          exfalso; omega
      · refine V_if_eq 17 dX7_about_5 (by decide) (by first | omega | exact hr_g _ _ | decide) (fun c_5 => ?_) (fun c_5 => absurd c_5 (by decide))
        exfalso; omega
    · refine V_aload_n dX7_about_0 rfl ?_
      refine V_iload_n dX7_about_1 rfl ?_
      refine VM_c1 (M' := mX7_isNode) okX7_isNode rfl dX7_about_2 q2872 rfl rfl (Nat.le_of_ble_eq_true rfl) (d' := 2) (b1 := 0) (by decide) (by decide) (c_X7_isNode hB hr_g (by first | omega | exact hr_g _ _ | decide) (by first | omega | (simp [gup, aup]; omega)) (fun c_2 => ?_) (fun c_2 => ?_))
      · refine V_if_eq 17 dX7_about_5 (by decide) (by first | omega | exact hr_g _ _ | decide) (fun c_5 => absurd c_5 (by decide)) (fun c_5 => ?_)
        refine V_iload_n dX7_about_8 rfl ?_
        refine V_iconst dX7_about_9 ?_
        refine V_iconst dX7_about_10 ?_
        refine VS_c3 (M' := mX7_in) okX7_in dX7_about_11 q2762 rfl rfl (Nat.le_of_ble_eq_true rfl) (d' := 1) (b1 := 0) (by decide) (by decide) (c_X7_in (by first | omega | exact hr_g _ _ | decide) (by first | omega | exact hr_g _ _ | decide) (by first | omega | exact hr_g _ _ | decide) (fun c_11 => ?_) (fun c_11 => ?_))
        · refine V_if_ne 19 dX7_about_14 (by decide) (by first | omega | exact hr_g _ _ | decide) (fun c_14 => ?_) (fun c_14 => absurd c_14 (by decide))
          exfalso; omega
        · refine V_if_ne 19 dX7_about_14 (by decide) (by first | omega | exact hr_g _ _ | decide) (fun c_14 => absurd c_14 (by decide)) (fun c_14 => ?_)
          refine V_iconst dX7_about_17 ?_
          exact V_iret dX7_about_18 rfl (by rw [if_neg (by omega)] at K0; exact K0)
      · refine V_if_eq 17 dX7_about_5 (by decide) (by first | omega | exact hr_g _ _ | decide) (fun c_5 => ?_) (fun c_5 => absurd c_5 (by decide))
        refine V_iconst dX7_about_17 ?_
        exact V_iret dX7_about_18 rfl (by rw [if_neg (by omega)] at K0; exact K0)
  · refine V_aload_n dX7_about_0 rfl ?_
    refine V_iload_n dX7_about_1 rfl ?_
    refine VM_c1 (M' := mX7_isNode) okX7_isNode rfl dX7_about_2 q2872 rfl rfl (Nat.le_of_ble_eq_true rfl) (d' := 2) (b1 := 0) (by decide) (by decide) (c_X7_isNode hB hr_g (by first | omega | exact hr_g _ _ | decide) (by first | omega | (simp [gup, aup]; omega)) (fun c_2 => ?_) (fun c_2 => ?_))
    · refine V_if_eq 17 dX7_about_5 (by decide) (by first | omega | exact hr_g _ _ | decide) (fun c_5 => absurd c_5 (by decide)) (fun c_5 => ?_)
      refine V_iload_n dX7_about_8 rfl ?_
      refine V_iconst dX7_about_9 ?_
      refine V_iconst dX7_about_10 ?_
      refine VS_c3 (M' := mX7_in) okX7_in dX7_about_11 q2762 rfl rfl (Nat.le_of_ble_eq_true rfl) (d' := 1) (b1 := 0) (by decide) (by decide) (c_X7_in (by first | omega | exact hr_g _ _ | decide) (by first | omega | exact hr_g _ _ | decide) (by first | omega | exact hr_g _ _ | decide) (fun c_11 => ?_) (fun c_11 => ?_))
      · refine V_if_ne 19 dX7_about_14 (by decide) (by first | omega | exact hr_g _ _ | decide) (fun c_14 => ?_) (fun c_14 => absurd c_14 (by decide))
        refine V_iload_n dX7_about_19 rfl ?_
        refine V_iconst dX7_about_20 ?_
        refine V_icmp_ne 63 dX7_about_21 (by decide) (by first | omega | exact hr_g _ _ | decide) (by first | omega | exact hr_g _ _ | decide) (fun c_21 => ?_) (fun c_21 => ?_)
        · refine V_aload_n dX7_about_63 rfl ?_
          refine V_iload_n dX7_about_64 rfl ?_
          refine V_iload_n dX7_about_65 rfl ?_
          refine VM_c2 (M' := mX7_of) okX7_of rfl dX7_about_66 q2860 rfl rfl (Nat.le_of_ble_eq_true rfl) (d' := 1) (b1 := 0) (by decide) (by decide) (c_X7_of hB (by first | omega | (simp [gup, aup]; omega)) (by first | omega | (simp [gup, aup]; omega)) ?_)
          refine V_top (g 0 (6 * n + w)) (by exact rfl) ?_
          exact V_iret dX7_about_69 rfl (by first | (rw [if_neg (by omega)] at K0; exact K0) | (rw [if_pos (by omega), if_neg hw5] at K0; exact K0))
        · exfalso; omega
      · refine V_if_ne 19 dX7_about_14 (by decide) (by first | omega | exact hr_g _ _ | decide) (fun c_14 => absurd c_14 (by decide)) (fun c_14 => ?_)
        refine V_iconst dX7_about_17 ?_
        exact V_iret dX7_about_18 rfl (by first | (rw [if_neg (by omega)] at K0; exact K0) | (rw [if_pos (by omega), if_neg hw5] at K0; exact K0))
    · refine V_if_eq 17 dX7_about_5 (by decide) (by first | omega | exact hr_g _ _ | decide) (fun c_5 => ?_) (fun c_5 => absurd c_5 (by decide))
      refine V_iconst dX7_about_17 ?_
      exact V_iret dX7_about_18 rfl (by first | (rw [if_neg (by omega)] at K0; exact K0) | (rw [if_pos (by omega), if_neg hw5] at K0; exact K0))
theorem oNB_r (hr : 0 ≤ g 1 0 ∧ g 1 0 ≤ 12) {sc nm : Int} : -9 ≤ oNB g sc nm ∧ oNB g sc nm ≤ 12 := by
  unfold oNB nBy
  rcases lastI_in (p := fun n => decide (g 0 (6 * n + 3) = sc ∧ g 0 (6 * n + 4) = nm)) hr.1 with h1 | ⟨h1, h3, -⟩ <;> omega
theorem oSB_r (hr : 0 ≤ g 6 0 ∧ g 6 0 ≤ 6) {sc nm : Int} : -9 ≤ oSB g sc nm ∧ oSB g sc nm ≤ 6 := by
  unfold oSB sBy
  rcases lastI_in (p := fun n => decide (g 4 n = sc ∧ g 5 n = nm)) hr.1 with h1 | ⟨h1, h3, -⟩ <;> omega
theorem c_X7_listed (hB : MB am B) (hr_g : Rng g) {k i : Int} (hk : inr k) (hi : inr i) (hb : BI g) (K : Q (vI (aListed g k i)) (mkM am B h0 g)) : V E mX7_listed 3 0 0 [some (.ref am), some (vI k), some (vI i), none, none, none, none, none] [] (mkM am B h0 g) Q X := by
  have hb1 := hb.1
  have hb6 := hb.2.2.1
  unfold aListed at K
  have L : ∀ sc : Int, inr sc → ∀ (left : Int), 0 ≤ left ∧ left ≤ i → ∀ v6 v7, Q (vI (aLisN g sc 26 left)) (mkM am B h0 g) → V E mX7_listed 3 0 37 [some (.ref am), some (vI k), some (vI i), some (vI sc), some (vI left), some (vI 0), v6, v7] [] (mkM am B h0 g) Q X := by
    intro sc hsc
    refine loop_upI (P := fun nm => ∀ (left : Int), 0 ≤ left ∧ left ≤ i → ∀ v6 v7, Q (vI (aLisN g sc (26 - nm).toNat left)) (mkM am B h0 g) → V E mX7_listed 3 0 37 [some (.ref am), some (vI k), some (vI i), some (vI sc), some (vI left), some (vI nm), v6, v7] [] (mkM am B h0 g) Q X) 0 26 (fun nm h1 h2 ih => ?_) (by omega)
    intro left hl v6 v7 hQ
    by_cases hc : nm = 26
    · subst hc
      refine V_iload dX7_listed_37 rfl ?_
      refine V_bipush dX7_listed_39 (by decide) ?_
      refine V_icmp_ge 108 dX7_listed_41 (by decide) (by first | omega | exact hr_g _ _ | decide) (by first | omega | exact hr_g _ _ | decide) (fun c_41 => ?_) (fun c_41 => absurd c_41 (by decide))
      refine V_bipush dX7_listed_108 (by decide) ?_
      exact V_iret dX7_listed_110 rfl (by exact hQ)
    · have o1 := oNB_r hb1 (g := g) (sc := sc) (nm := nm)
      have o2 := oSB_r hb6 (g := g) (sc := sc) (nm := nm)
      have e1 : (26 - nm).toNat = (26 - (nm + 1)).toNat + 1 := by omega
      have e2 : 25 - (((26 - (nm + 1)).toNat : Nat) : Int) = nm := by omega
      rw [e1] at hQ
      unfold aLisN at hQ
      rw [e2] at hQ
      dsimp only at hQ
      refine V_iload dX7_listed_37 rfl ?_
      refine V_bipush dX7_listed_39 (by decide) ?_
      refine V_icmp_ge 108 dX7_listed_41 (by decide) (by first | omega | exact hr_g _ _ | decide) (by first | omega | exact hr_g _ _ | decide) (fun c_41 => by exfalso; omega) (fun c_41 => ?_)
      refine V_aload_n dX7_listed_44 rfl ?_
      refine V_iload_n dX7_listed_45 rfl ?_
      refine V_iload dX7_listed_46 rfl ?_
      refine VM_c2 (M' := mX7_nodeBy) okX7_nodeBy rfl dX7_listed_48 q2856 rfl rfl (Nat.le_of_ble_eq_true rfl) (d' := 2) (b1 := 0) (by decide) (by decide) (c_X7_nodeBy hB hr_g (by first | omega | exact hr_g _ _ | decide) (by first | omega | exact hr_g _ _ | decide) (by first | omega | (simp [gup, aup]; omega)) ?_)
      refine V_istore dX7_listed_51 (by decide) ?_
      refine V_aload_n dX7_listed_53 rfl ?_
      refine V_iload_n dX7_listed_54 rfl ?_
      refine V_iload dX7_listed_55 rfl ?_
      refine VM_c2 (M' := mX7_scopeBy) okX7_scopeBy rfl dX7_listed_57 q2864 rfl rfl (Nat.le_of_ble_eq_true rfl) (d' := 2) (b1 := 0) (by decide) (by decide) (c_X7_scopeBy hB hr_g (by first | omega | exact hr_g _ _ | decide) (by first | omega | exact hr_g _ _ | decide) (by first | omega | (simp [gup, aup]; omega)) ?_)
      refine V_istore dX7_listed_60 (by decide) ?_
      refine V_iload dX7_listed_62 rfl ?_
      refine V_bipush dX7_listed_64 (by decide) ?_
      refine V_icmp_ne 76 dX7_listed_66 (by decide) (by first | omega | exact hr_g _ _ | decide) (by first | omega | exact hr_g _ _ | decide) (fun c_66 => ?_) (fun c_66 => ?_)
      · refine V_iload dX7_listed_76 rfl ?_
        refine V_if_ne 99 dX7_listed_78 (by decide) (by first | omega | exact hr_g _ _ | decide) (fun c_78 => ?_) (fun c_78 => ?_)
        · refine V_iinc dX7_listed_99 rfl (by decide) ?_
          refine V_iinc dX7_listed_102 rfl (by decide) ?_
          refine V_goto 37 dX7_listed_105 (by decide) ?_
          first | (rw [if_pos (by omega), if_neg (by omega)] at hQ; exact ih (by omega) _ (by omega) _ _ hQ) | (rw [if_neg (by omega)] at hQ; exact ih (by omega) _ (by omega) _ _ hQ)
        · refine V_iload dX7_listed_81 rfl ?_
          refine V_bipush dX7_listed_83 (by decide) ?_
          refine V_icmp_eq 93 dX7_listed_85 (by decide) (by first | omega | exact hr_g _ _ | decide) (by first | omega | exact hr_g _ _ | decide) (fun c_85 => ?_) (fun c_85 => ?_)
          · refine V_bipush dX7_listed_93 (by decide) ?_
            refine V_iload dX7_listed_95 rfl ?_
            refine V_iadd dX7_listed_97 ?_
            exact V_iret dX7_listed_98 rfl (by first | (rw [if_pos (by omega), if_pos (by omega), if_pos (by omega)] at hQ; exact hQ) | (rw [if_pos (by omega), if_pos (by omega), if_neg (by omega)] at hQ; exact hQ))
          · refine V_iload dX7_listed_88 rfl ?_
            refine V_goto 98 dX7_listed_90 (by decide) ?_
            exact V_iret dX7_listed_98 rfl (by first | (rw [if_pos (by omega), if_pos (by omega), if_pos (by omega)] at hQ; exact hQ) | (rw [if_pos (by omega), if_pos (by omega), if_neg (by omega)] at hQ; exact hQ))
      · refine V_iload dX7_listed_69 rfl ?_
        refine V_bipush dX7_listed_71 (by decide) ?_
        refine V_icmp_eq 102 dX7_listed_73 (by decide) (by first | omega | exact hr_g _ _ | decide) (by first | omega | exact hr_g _ _ | decide) (fun c_73 => ?_) (fun c_73 => ?_)
        · refine V_iinc dX7_listed_102 rfl (by decide) ?_
          refine V_goto 37 dX7_listed_105 (by decide) ?_
          first | (rw [if_pos (by omega), if_neg (by omega)] at hQ; exact ih (by omega) _ (by omega) _ _ hQ) | (rw [if_neg (by omega)] at hQ; exact ih (by omega) _ (by omega) _ _ hQ)
        · refine V_iload dX7_listed_76 rfl ?_
          refine V_if_ne 99 dX7_listed_78 (by decide) (by first | omega | exact hr_g _ _ | decide) (fun c_78 => ?_) (fun c_78 => ?_)
          · refine V_iinc dX7_listed_99 rfl (by decide) ?_
            refine V_iinc dX7_listed_102 rfl (by decide) ?_
            refine V_goto 37 dX7_listed_105 (by decide) ?_
            first | (rw [if_pos (by omega), if_neg (by omega)] at hQ; exact ih (by omega) _ (by omega) _ _ hQ) | (rw [if_neg (by omega)] at hQ; exact ih (by omega) _ (by omega) _ _ hQ)
          · refine V_iload dX7_listed_81 rfl ?_
            refine V_bipush dX7_listed_83 (by decide) ?_
            refine V_icmp_eq 93 dX7_listed_85 (by decide) (by first | omega | exact hr_g _ _ | decide) (by first | omega | exact hr_g _ _ | decide) (fun c_85 => ?_) (fun c_85 => ?_)
            · refine V_bipush dX7_listed_93 (by decide) ?_
              refine V_iload dX7_listed_95 rfl ?_
              refine V_iadd dX7_listed_97 ?_
              exact V_iret dX7_listed_98 rfl (by first | (rw [if_pos (by omega), if_pos (by omega), if_pos (by omega)] at hQ; exact hQ) | (rw [if_pos (by omega), if_pos (by omega), if_neg (by omega)] at hQ; exact hQ))
            · refine V_iload dX7_listed_88 rfl ?_
              refine V_goto 98 dX7_listed_90 (by decide) ?_
              exact V_iret dX7_listed_98 rfl (by first | (rw [if_pos (by omega), if_pos (by omega), if_pos (by omega)] at hQ; exact hQ) | (rw [if_pos (by omega), if_pos (by omega), if_neg (by omega)] at hQ; exact hQ))
  refine V_iload_n dX7_listed_0 rfl ?_
  refine V_iconst dX7_listed_1 ?_
  refine V_aload_n dX7_listed_2 rfl ?_
  refine VM_getiE 6 (g 6 0) dX7_listed_3 q2612 (by decide) rfl rfl ?_
  refine V_iconst dX7_listed_6 ?_
  refine V_isub dX7_listed_7 ?_
  refine VS_c3 (M' := mX7_in) okX7_in dX7_listed_8 q2762 rfl rfl (Nat.le_of_ble_eq_true rfl) (d' := 1) (b1 := 0) (by decide) (by decide) (c_X7_in (by first | omega | exact hr_g _ _ | decide) (by first | omega | exact hr_g _ _ | decide) (by first | omega | exact hr_g _ _ | decide) (fun c_8 => ?_) (fun c_8 => ?_))
  · refine V_if_eq 18 dX7_listed_11 (by decide) (by first | omega | exact hr_g _ _ | decide) (fun c_11 => absurd c_11 (by decide)) (fun c_11 => ?_)
    refine V_iload_n dX7_listed_14 rfl ?_
    refine V_if_ge 20 dX7_listed_15 (by decide) (by first | omega | exact hr_g _ _ | decide) (fun c_15 => ?_) (fun c_15 => ?_)
    · refine V_iload_n dX7_listed_20 rfl ?_
      refine V_if_ge 29 dX7_listed_21 (by decide) (by first | omega | exact hr_g _ _ | decide) (fun c_21 => ?_) (fun c_21 => ?_)
      · refine V_iload_n dX7_listed_29 rfl ?_
        refine V_istore_n dX7_listed_30 (by decide) ?_
        refine V_iload_n dX7_listed_31 rfl ?_
        refine V_istore dX7_listed_32 (by decide) ?_
        refine V_iconst dX7_listed_34 ?_
        refine V_istore dX7_listed_35 (by decide) ?_
        refine L _ (by first | decide | exact hk) _ (by omega) _ _ ?_; rw [if_pos (by omega)] at K; first | (rw [if_pos (by omega)] at K; exact K) | (rw [if_neg (by omega)] at K; exact K)
      · refine V_bipush dX7_listed_24 (by decide) ?_
        refine V_goto 30 dX7_listed_26 (by decide) ?_
        refine V_istore_n dX7_listed_30 (by decide) ?_
        refine V_iload_n dX7_listed_31 rfl ?_
        refine V_istore dX7_listed_32 (by decide) ?_
        refine V_iconst dX7_listed_34 ?_
        refine V_istore dX7_listed_35 (by decide) ?_
        refine L _ (by first | decide | exact hk) _ (by omega) _ _ ?_; rw [if_pos (by omega)] at K; first | (rw [if_pos (by omega)] at K; exact K) | (rw [if_neg (by omega)] at K; exact K)
    · refine V_iconst dX7_listed_18 ?_
      exact V_iret dX7_listed_19 rfl (by rw [if_neg (by omega)] at K; exact K)
  · refine V_if_eq 18 dX7_listed_11 (by decide) (by first | omega | exact hr_g _ _ | decide) (fun c_11 => ?_) (fun c_11 => absurd c_11 (by decide))
    refine V_iconst dX7_listed_18 ?_
    exact V_iret dX7_listed_19 rfl (by rw [if_neg (by omega)] at K; exact K)
theorem c_X7_isTime (hB : MB am B) (hr_g : Rng g) {t : Int} (ht : inr t) (Kt : 0 ≤ t ∧ t ≤ g 9 0 → Q (vI 1) (mkM am B h0 g)) (Kf : ¬ (0 ≤ t ∧ t ≤ g 9 0) → Q (vI 0) (mkM am B h0 g)) : V E mX7_isTime 2 0 0 [some (.ref am), some (vI t)] [] (mkM am B h0 g) Q X := by
  refine V_iload_n dX7_isTime_0 rfl ?_
  refine V_iconst dX7_isTime_1 ?_
  refine V_aload_n dX7_isTime_2 rfl ?_
  refine VM_geta 9 dX7_isTime_3 q2615 (by decide) rfl ?_
  refine V_iconst dX7_isTime_6 ?_
  refine VM_ialdE 9 (g 9 0) hB dX7_isTime_7 mar9 rfl (by first | omega | (simp [gup, aup]; omega)) (by show _ < (209 : Int); first | omega | (simp [gup, aup]; omega)) (by decide) rfl ?_
  refine VS_c3 (M' := mX7_in) okX7_in dX7_isTime_8 q2762 rfl rfl (Nat.le_of_ble_eq_true rfl) (d' := 1) (b1 := 0) (by decide) (by decide) (c_X7_in (by first | omega | exact hr_g _ _ | decide) (by first | omega | exact hr_g _ _ | decide) (by first | omega | exact hr_g _ _ | decide) (fun c_8 => ?_) (fun c_8 => ?_))
  · exact V_zret dX7_isTime_11 rfl (by first | decide | omega) (by first | exact Kt (by omega) | exact Kf (by omega))
  · exact V_zret dX7_isTime_11 rfl (by first | decide | omega) (by first | exact Kt (by omega) | exact Kf (by omega))
def aType (g : MG) (c : Int) : Int := if 0 ≤ c ∧ c ≤ 255 then (if g 15 0 = 160 then -3 else g 15 0 + 1) else -1
def pType (g : MG) (c : Int) : MG := if 0 ≤ c ∧ c ≤ 255 then (if g 15 0 = 160 then g else gup (gup g 14 (g 15 0) c) 15 0 (g 15 0 + 1)) else g
theorem c_X7_type (hB : MB am B) (hr_g : Rng g) {c : Int} (hc : inr c) (h15 : 0 ≤ g 15 0 ∧ g 15 0 ≤ 160) (K : Q (vI (aType g c)) (mkM am B h0 (pType g c))) : V E mX7_type 2 0 0 [some (.ref am), some (vI c)] [] (mkM am B h0 g) Q X := by
  unfold aType pType at K
  refine V_iload_n dX7_type_0 rfl ?_
  refine V_iconst dX7_type_1 ?_
  refine V_sipush dX7_type_2 (by decide) ?_
  refine VS_c3 (M' := mX7_in) okX7_in dX7_type_5 q2762 rfl rfl (Nat.le_of_ble_eq_true rfl) (d' := 1) (b1 := 0) (by decide) (by decide) (c_X7_in (by first | omega | exact hr_g _ _ | decide) (by first | omega | exact hr_g _ _ | decide) (by first | omega | exact hr_g _ _ | decide) (fun c_5 => ?_) (fun c_5 => ?_))
  · refine V_if_ne 13 dX7_type_8 (by decide) (by first | omega | exact hr_g _ _ | decide) (fun c_8 => ?_) (fun c_8 => absurd c_8 (by decide))
    refine V_aload_n dX7_type_13 rfl ?_
    refine VM_getiE 15 (g 15 0) dX7_type_14 q2621 (by decide) rfl rfl ?_
    refine V_sipush dX7_type_17 (by decide) ?_
    refine V_icmp_ne 26 dX7_type_20 (by decide) (by first | omega | exact hr_g _ _ | decide) (by first | omega | exact hr_g _ _ | decide) (fun c_20 => ?_) (fun c_20 => ?_)
    · refine V_aload_n dX7_type_26 rfl ?_
      refine VM_geta 14 dX7_type_27 q2620 (by decide) rfl ?_
      refine V_aload_n dX7_type_30 rfl ?_
      refine VM_getiE 15 (g 15 0) dX7_type_31 q2621 (by decide) rfl rfl ?_
      refine V_iload_n dX7_type_34 rfl ?_
      refine VM_iast 14 hB dX7_type_35 mar14 rfl mfa14 (by first | omega | (simp [gup, aup]; omega)) (by show _ < (160 : Int); first | omega | (simp [gup, aup]; omega)) (by decide) ?_
      refine V_aload_n dX7_type_36 rfl ?_
      refine V_dup dX7_type_37 rfl ?_
      refine VM_getiE 15 (g 15 0) dX7_type_38 q2621 (by decide) rfl rfl ?_
      refine V_iconst dX7_type_41 ?_
      refine V_iadd dX7_type_42 ?_
      refine VM_puti 15 dX7_type_43 q2621 (by decide) rfl rfl mfs15 mna15 ?_
      refine V_aload_n dX7_type_46 rfl ?_
      refine VM_getiE 15 ((g 15 0) + 1) dX7_type_47 q2621 (by decide) rfl rfl ?_
      exact V_iret dX7_type_50 rfl (by first | (rw [if_neg (by omega), if_neg (by omega)] at K; exact K) | (rw [if_pos (by omega), if_pos (by omega), if_pos (by omega), if_pos (by omega)] at K; exact K) | (rw [if_pos (by omega), if_neg (by omega), if_pos (by omega), if_neg (by omega)] at K; exact K))
    · refine V_bipush dX7_type_23 (by decide) ?_
      exact V_iret dX7_type_25 rfl (by first | (rw [if_neg (by omega), if_neg (by omega)] at K; exact K) | (rw [if_pos (by omega), if_pos (by omega), if_pos (by omega), if_pos (by omega)] at K; exact K) | (rw [if_pos (by omega), if_neg (by omega), if_pos (by omega), if_neg (by omega)] at K; exact K))
  · refine V_if_ne 13 dX7_type_8 (by decide) (by first | omega | exact hr_g _ _ | decide) (fun c_8 => absurd c_8 (by decide)) (fun c_8 => ?_)
    refine V_iconst dX7_type_11 ?_
    exact V_iret dX7_type_12 rfl (by first | (rw [if_neg (by omega), if_neg (by omega)] at K; exact K) | (rw [if_pos (by omega), if_pos (by omega), if_pos (by omega), if_pos (by omega)] at K; exact K) | (rw [if_pos (by omega), if_neg (by omega), if_pos (by omega), if_neg (by omega)] at K; exact K))
theorem c_X7_clear (hB : MB am B) (hr_g : Rng g) (K : Q (vI (g 15 0)) (mkM am B h0 (gup g 15 0 0))) : V E mX7_clear 1 0 0 [some (.ref am), none] [] (mkM am B h0 g) Q X := by
  refine V_aload_n dX7_clear_0 rfl ?_
  refine VM_getiE 15 (g 15 0) dX7_clear_1 q2621 (by decide) rfl rfl ?_
  refine V_istore_n dX7_clear_4 (by decide) ?_
  refine V_aload_n dX7_clear_5 rfl ?_
  refine V_iconst dX7_clear_6 ?_
  refine VM_puti 15 dX7_clear_7 q2621 (by decide) rfl rfl mfs15 mna15 ?_
  refine V_iload_n dX7_clear_10 rfl ?_
  exact V_iret dX7_clear_11 rfl (by exact K)
end M16
