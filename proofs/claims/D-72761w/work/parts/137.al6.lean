/-! ARRAYLIST, VI: equals, of lists of small numbers -/
theorem V_KC {E : Ev} {M : Mt} {d b pc : Nat} {ls : List (Option Value)} {st : List Value} {h : AH} {Q : Value → AH → Prop} {X : Nat → AH → Prop} (k : KC E → V E M d b pc ls st h Q X) : V E M d b pc ls st h Q X := by
  intro p l e R s m args below meth c H locs cells slots mc ms arr C
  exact k C.2.2.2.2.2.2.2.2.2.1.2.2.2.2.2.2.1.2.2.2.1 p l e R s m args below meth c H locs cells slots mc ms arr C
theorem iA_inj {E : Ev} (k : KC E) {x y : Int} (hx : -128 ≤ x ∧ x ≤ 127) (hy : -128 ≤ y ∧ y ≤ 127) (e : iA E x = iA E y) : x = y := by
  have h1 := k _ _ (cst.int hx.1 hx.2)
  have h2 := k _ _ (cst.int hy.1 hy.2)
  rw [e] at h1
  obtain ⟨r1, e1, c1, a1, -, -, b1⟩ := h1
  obtain ⟨r2, e2, c2, a2, -, -, b2⟩ := h2
  rw [e1] at e2
  cases e2
  rw [a1] at a2
  cases a2
  have hN : 0 < r1.2.2 := by
    have : clA[32]? = some r1 := e1
    cases this
    decide
  have q1 := b1 0 hN
  have q2 := b2 0 hN
  rw [q1] at q2
  simp only [vp_V, vI, List.getD_cons_zero, Option.some.injEq, Value.int.injEq] at q2
  have q3 := congrArg Int32.toInt q2
  rw [Int32.toInt_ofInt_of_le (by omega) (by omega), Int32.toInt_ofInt_of_le (by omega) (by omega)] at q3
  exact q3
section AL6
variable {E : Ev} {M : Mt} {d b pc : Nat} {ls : List (Option Value)} {st : List Value} {h : AH} {Q : Value → AH → Prop} {X : Nat → AH → Prop} {a c : Nat} {mc mc2 : Int} {zs ws : List Int} {hh : AH}
theorem c_J8_intValue {x : Int} (hx : -128 ≤ x ∧ x ≤ 127) (K : Q (vI x) h) : V E mJ8_intValue 0 0 0 [some (.ref (iA E x))] [] h Q X := by
  refine V_aload_n dJ8_intValue_0 rfl ?_
  refine V_getfK okJ8 0 dJ8_intValue_1 q1363 (by decide) (cst.int hx.1 hx.2) rfl ?_
  exact V_iret dJ8_intValue_4 rfl (by exact K)
theorem c_J8_equals {x y : Int} (hx : -128 ≤ x ∧ x ≤ 127) (hy : -128 ≤ y ∧ y ≤ 127) (Kt : x = y → Q (vI 1) h) (Kf : x ≠ y → Q (vI 0) h) : V E mJ8_equals 1 0 0 [some (.ref (iA E x)), some (.ref (iA E y))] [] h Q X := by
  refine V_aload_n dJ8_equals_0 rfl ?_
  refine V_instE dJ8_equals_1 q456 rfl (Or.inr ⟨_, (cst.int hy.1 hy.2)⟩) ?_
  refine V_if_eq 27 dJ8_equals_4 (by decide) (by constructor <;> omega) (fun c_4 => absurd c_4 (by decide)) (fun c_4 => ?_)
  refine V_aload_n dJ8_equals_7 rfl ?_
  refine V_getfK okJ8 0 dJ8_equals_8 q1363 (by decide) (cst.int hx.1 hx.2) rfl ?_
  refine V_aload_n dJ8_equals_11 rfl ?_
  refine V_castE dJ8_equals_12 q456 rfl (Or.inr ⟨_, (cst.int hy.1 hy.2)⟩) ?_
  refine V_invVc (M' := mJ8_intValue) (As := []) (rest := [vI x]) okJ8_intValue dJ8_equals_15 q1691 rfl rfl (Or.inr ⟨_, (cst.int hy.1 hy.2)⟩) rfl rfl (Nat.le_of_ble_eq_true rfl) (d' := 0) (b1 := 0) (by first | decide | omega) (by first | decide | omega) (c_J8_intValue hy ?_)
  refine V_icmp_ne 25 dJ8_equals_18 (by decide) (by constructor <;> omega) (by constructor <;> omega) (fun c_18 => ?_) (fun c_18 => ?_)
  · refine V_iconst dJ8_equals_25 ?_
    exact V_zret dJ8_equals_26 rfl (by first | decide | omega) (by first | exact Kt (by assumption) | exact Kf (by assumption))
  · refine V_iconst dJ8_equals_21 ?_
    refine V_goto 26 dJ8_equals_22 (by decide) ?_
    exact V_zret dJ8_equals_26 rfl (by first | decide | omega) (by first | exact Kt (by assumption) | exact Kf (by assumption))
theorem c_J17_equals {x y : Int} (hx : -128 ≤ x ∧ x ≤ 127) (hy : -128 ≤ y ∧ y ≤ 127) (Kt : x = y → Q (vI 1) h) (Kf : x ≠ y → Q (vI 0) h) : V E mJ17_equals 2 0 0 [some (.ref (iA E x)), some (.ref (iA E y))] [] h Q X := by
  refine V_KC (fun kc => ?_)
  by_cases e : x = y
  · subst e
    refine V_aload_n dJ17_equals_0 rfl ?_
    refine V_aload_n dJ17_equals_1 rfl ?_
    refine V_acmp_eq (rx := (some (iA E x))) (ry := (some (iA E x))) 17 dJ17_equals_2 (by decide) (fun _ => ?_) (fun c_2 => absurd rfl c_2)
    refine V_iconst dJ17_equals_17 ?_
    refine V_goto 22 dJ17_equals_18 (by decide) ?_
    exact V_zret dJ17_equals_22 rfl (by first | decide | omega) (by exact Kt rfl)
  · have ne := fun e' => e (iA_inj kc hx hy e')
    refine V_aload_n dJ17_equals_0 rfl ?_
    refine V_aload_n dJ17_equals_1 rfl ?_
    refine V_acmp_eq (rx := (some (iA E x))) (ry := (some (iA E y))) 17 dJ17_equals_2 (by decide) (fun c_2 => absurd (Option.some.inj c_2) ne) (fun _ => ?_)
    refine V_aload_n dJ17_equals_5 rfl ?_
    refine V_ifnull dJ17_equals_6 ?_
    refine V_aload_n dJ17_equals_9 rfl ?_
    refine V_aload_n dJ17_equals_10 rfl ?_
    refine V_invO (M' := mJ8_equals) (As := [.ref (iA E y)]) (rest := []) (C0 := "java/lang/Integer") (owner := "java/lang/Object") (x := ⟨"java/lang/Object", "equals", "(Ljava/lang/Object;)Z"⟩) okmJ8_equals (show OkX "java/lang/Object" ⟨"java/lang/Object", "equals", "(Ljava/lang/Object;)Z"⟩ 1 from ⟨by decide +kernel, by decide +kernel, by decide +kernel⟩) dJ17_equals_11 ⟨q1669, q1671, q1688⟩ q1670 q1702 rfl rfl (Or.inr ⟨_, (cst.int hx.1 hx.2)⟩) rfl rfl (Nat.le_of_ble_eq_true rfl) (d' := 1) (b1 := 0) (by first | decide | omega) (by first | decide | omega) (c_J8_equals hx hy (fun e' => absurd e' e) (fun _ => ?_))
    refine V_if_eq 21 dJ17_equals_14 (by decide) (by first | omega | decide) (fun c_14 => ?_) (fun c_14 => absurd c_14 (by decide))
    refine V_iconst dJ17_equals_21 ?_
    exact V_zret dJ17_equals_22 rfl (by first | decide | omega) (by exact Kf e)
theorem c_J4_checkForComodification {v1 v2 : Value} (ha : h a = some (oO 26 [vI mc, v1, v2])) (K : Q .null h) : V E mJ4_checkForComodification 0 0 0 [some (.ref a), some (vI mc)] [] h Q X := by
  refine V_aload_n dJ4_checkForComodification_0 rfl ?_
  refine V_getfS okJ4 0 dJ4_checkForComodification_1 q270 q269 (by decide) ha rfl ?_
  refine V_iload_n dJ4_checkForComodification_4 rfl ?_
  refine V_icmp_eqS 16 dJ4_checkForComodification_5 (by decide) ?_
  exact V_vret dJ4_checkForComodification_16 rfl (by exact K)
theorem c_J4_eqT {v1 v2 : Value} {v3 v5 v6 v7 : Option Value} {r : Int} (hc : h c = some (oO 26 [vI mc2, v1, v2])) (hr : r = 0 ∨ r = 1) (K : V E mJ4_equalsArrayList 1 0 107 [some (.ref a), some (.ref c), some (vI mc2), v3, some (vI r), v5, v6, v7] [vI r] h Q X) : V E mJ4_equalsArrayList 1 0 100 [some (.ref a), some (.ref c), some (vI mc2), v3, some (vI r), v5, v6, v7] [] h Q X := by
  refine V_aload_n dJ4_equalsArrayList_100 rfl ?_
  refine V_iload_n dJ4_equalsArrayList_101 rfl ?_
  refine V_invVc (M' := mJ4_checkForComodification) (As := [vI mc2]) (rest := []) okJ4_checkForComodification dJ4_equalsArrayList_102 q1703 rfl rfl (clsE.o hc) rfl rfl (Nat.le_of_ble_eq_true rfl) (d' := 0) (b1 := 0) (by first | decide | omega) (by first | decide | omega) (c_J4_checkForComodification hc ?_)
  refine V_iload dJ4_equalsArrayList_105 rfl ?_
  exact K
theorem c_J4_equalsArrayList (ha : h a = some (cAL E a mc (zs.map (iA E)))) (hc : h c = some (cAL E c mc2 (ws.map (iA E)))) (nac : a ≠ c) (hz : ∀ z ∈ zs, -128 ≤ z ∧ z ≤ 127) (hw : ∀ z ∈ ws, -128 ≤ z ∧ z ≤ 127) (Kt : zs = ws → Q (vI 1) h) (Kf : zs ≠ ws → Q (vI 0) h) : V E mJ4_equalsArrayList 3 0 0 [some (.ref a), some (.ref c), none, none, none, none, none, none] [] h Q X := by
  refine V_open ha (fun hh P D => ?_)
  have hc' := ovl_old D nac.symm hc
  refine V_open hc' (fun hh2 P2 D2 => ?_)
  obtain ⟨ea, e1, e2⟩ := id P
  obtain ⟨ec, f1, f2⟩ := id P2
  have g1 := ovl_old D2 nac (ovl_in (h := h) (a := a) e1)
  have g2 := ovl_in (h := ovl h a hh) (a := c) f1
  have hlen := alP.len e2
  have hlen2 := alP.len f2
  simp only [List.length_map] at e1 f1 g1 g2 hlen hlen2
  have fin : ∀ (b' p' : Nat) (ls' : List (Option Value)) (st' : List Value), V E mJ4_equalsArrayList 1 b' p' ls' st' h Q X → V E mJ4_equalsArrayList 1 b' p' ls' st' (ovl (ovl h a hh) c hh2) Q X := fun b' p' ls' st' k => V_shut hc' P2 f1 D2 (V_shut ha P e1 D k)
  have R : ∀ (r : Int) (v3 v5 v6 v7 : Option Value), (r = 0 ∨ r = 1) → Q (vI r) h → V E mJ4_equalsArrayList 1 0 100 [some (.ref a), some (.ref c), some (vI mc2), v3, some (vI r), v5, v6, v7] [] (ovl (ovl h a hh) c hh2) Q X := by
    intro r v3 v5 v6 v7 hr hQ
    exact c_J4_eqT g2 hr (fin 0 107 _ _ (by rcases hr with rfl | rfl <;> exact V_zret dJ4_equalsArrayList_107 rfl (by decide) hQ))
  have ne' : ∀ i : Nat, (hi : i < zs.length) → (hi2 : i < ws.length) → zs[i] ≠ ws[i] → zs ≠ ws := fun i h1 h2 n e => n (by subst e; rfl)
  by_cases hl : zs.length = ws.length
  · rcases id e2 with ⟨ez, rfl⟩ | ⟨n, g, e3, n1, n2, n3, hg⟩
    · have z0 : zs = [] := by simpa using ez
      subst z0
      have w0 : ws = [] := List.eq_nil_of_length_eq_zero hl.symm
      subst w0
      rcases id f2 with ⟨-, rfl⟩ | ⟨n', g', f3, m1, m2, m3, hg'⟩
      · refine V_aload_n dJ4_equalsArrayList_0 rfl ?_
        refine V_getfS okJ4 0 dJ4_equalsArrayList_1 q270 q269 (by decide) g2 rfl ?_
        refine V_istore_n dJ4_equalsArrayList_4 (by decide) ?_
        refine V_aload_n dJ4_equalsArrayList_5 rfl ?_
        refine V_getf okJ4 2 dJ4_equalsArrayList_6 q266 (by decide) g1 rfl ?_
        refine V_istore_n dJ4_equalsArrayList_9 (by decide) ?_
        refine V_iload_n dJ4_equalsArrayList_10 rfl ?_
        refine V_aload_n dJ4_equalsArrayList_11 rfl ?_
        refine V_getf okJ4 2 dJ4_equalsArrayList_12 q266 (by decide) g2 rfl ?_
        refine V_icmp_ne 22 dJ4_equalsArrayList_15 (by decide) (by constructor <;> omega) (by constructor <;> omega) (fun c_15 => by exfalso; omega) (fun c_15 => ?_)
        refine V_iconst dJ4_equalsArrayList_18 ?_
        refine V_goto 23 dJ4_equalsArrayList_19 (by decide) ?_
        refine V_dup dJ4_equalsArrayList_23 rfl ?_
        refine V_istore dJ4_equalsArrayList_24 (by decide) ?_
        refine V_if_eq 100 dJ4_equalsArrayList_26 (by decide) (by constructor <;> omega) (fun c_26 => by exfalso; omega) (fun c_26 => ?_)
        refine V_aload_n dJ4_equalsArrayList_29 rfl ?_
        refine V_getf okJ4 1 dJ4_equalsArrayList_30 q263 (by decide) g2 rfl ?_
        refine V_astore dJ4_equalsArrayList_33 (by decide) ?_
        refine V_aload_n dJ4_equalsArrayList_35 rfl ?_
        refine V_getf okJ4 1 dJ4_equalsArrayList_36 q263 (by decide) g1 rfl ?_
        refine V_astore dJ4_equalsArrayList_39 (by decide) ?_
        refine V_iload_n dJ4_equalsArrayList_41 rfl ?_
        refine V_aload dJ4_equalsArrayList_42 rfl ?_
        refine V_alenK dJ4_equalsArrayList_44 cst.e1 rfl ?_
        refine V_icmp_gt 55 dJ4_equalsArrayList_45 (by decide) (by constructor <;> omega) (by constructor <;> omega) (fun c_45 => by exfalso; simp at c_45; try omega) (fun c_45 => ?_)
        refine V_iload_n dJ4_equalsArrayList_48 rfl ?_
        refine V_aload dJ4_equalsArrayList_49 rfl ?_
        refine V_alenK dJ4_equalsArrayList_51 cst.e1 rfl ?_
        refine V_icmp_le 63 dJ4_equalsArrayList_52 (by decide) (by constructor <;> omega) (by constructor <;> omega) (fun c_52 => ?_) (fun c_52 => by exfalso; simp at c_52; try omega)
        refine V_iconst dJ4_equalsArrayList_63 ?_
        refine V_istore dJ4_equalsArrayList_64 (by decide) ?_
        refine V_iload dJ4_equalsArrayList_66 rfl ?_
        refine V_iload_n dJ4_equalsArrayList_68 rfl ?_
        refine V_icmp_ge 100 dJ4_equalsArrayList_69 (by decide) (by constructor <;> omega) (by constructor <;> omega) (fun c_69 => ?_) (fun c_69 => by exfalso; omega)
        exact V.mono (by decide) (Nat.le_refl _) (R 1 _ _ _ _ (Or.inr rfl) (Kt rfl))
      · have g3 := ovl_in (h := ovl h a hh) (a := c) f3
        refine V_aload_n dJ4_equalsArrayList_0 rfl ?_
        refine V_getfS okJ4 0 dJ4_equalsArrayList_1 q270 q269 (by decide) g2 rfl ?_
        refine V_istore_n dJ4_equalsArrayList_4 (by decide) ?_
        refine V_aload_n dJ4_equalsArrayList_5 rfl ?_
        refine V_getf okJ4 2 dJ4_equalsArrayList_6 q266 (by decide) g1 rfl ?_
        refine V_istore_n dJ4_equalsArrayList_9 (by decide) ?_
        refine V_iload_n dJ4_equalsArrayList_10 rfl ?_
        refine V_aload_n dJ4_equalsArrayList_11 rfl ?_
        refine V_getf okJ4 2 dJ4_equalsArrayList_12 q266 (by decide) g2 rfl ?_
        refine V_icmp_ne 22 dJ4_equalsArrayList_15 (by decide) (by constructor <;> omega) (by constructor <;> omega) (fun c_15 => by exfalso; omega) (fun c_15 => ?_)
        refine V_iconst dJ4_equalsArrayList_18 ?_
        refine V_goto 23 dJ4_equalsArrayList_19 (by decide) ?_
        refine V_dup dJ4_equalsArrayList_23 rfl ?_
        refine V_istore dJ4_equalsArrayList_24 (by decide) ?_
        refine V_if_eq 100 dJ4_equalsArrayList_26 (by decide) (by constructor <;> omega) (fun c_26 => by exfalso; omega) (fun c_26 => ?_)
        refine V_aload_n dJ4_equalsArrayList_29 rfl ?_
        refine V_getf okJ4 1 dJ4_equalsArrayList_30 q263 (by decide) g2 rfl ?_
        refine V_astore dJ4_equalsArrayList_33 (by decide) ?_
        refine V_aload_n dJ4_equalsArrayList_35 rfl ?_
        refine V_getf okJ4 1 dJ4_equalsArrayList_36 q263 (by decide) g1 rfl ?_
        refine V_astore dJ4_equalsArrayList_39 (by decide) ?_
        refine V_iload_n dJ4_equalsArrayList_41 rfl ?_
        refine V_aload dJ4_equalsArrayList_42 rfl ?_
        refine V_alenK dJ4_equalsArrayList_44 cst.e1 rfl ?_
        refine V_icmp_gt 55 dJ4_equalsArrayList_45 (by decide) (by constructor <;> omega) (by constructor <;> omega) (fun c_45 => by exfalso; simp at c_45; try omega) (fun c_45 => ?_)
        refine V_iload_n dJ4_equalsArrayList_48 rfl ?_
        refine V_aload dJ4_equalsArrayList_49 rfl ?_
        refine V_alenR dJ4_equalsArrayList_51 g3 rfl ?_
        refine V_icmp_le 63 dJ4_equalsArrayList_52 (by decide) (by constructor <;> omega) (by constructor <;> omega) (fun c_52 => ?_) (fun c_52 => by exfalso; simp at c_52; try omega)
        refine V_iconst dJ4_equalsArrayList_63 ?_
        refine V_istore dJ4_equalsArrayList_64 (by decide) ?_
        refine V_iload dJ4_equalsArrayList_66 rfl ?_
        refine V_iload_n dJ4_equalsArrayList_68 rfl ?_
        refine V_icmp_ge 100 dJ4_equalsArrayList_69 (by decide) (by constructor <;> omega) (by constructor <;> omega) (fun c_69 => ?_) (fun c_69 => by exfalso; omega)
        exact V.mono (by decide) (Nat.le_refl _) (R 1 _ _ _ _ (Or.inr rfl) (Kt rfl))
    · have x3 : ea ≠ c := ne_t (ovl_in (h := h) (a := a) e3) hc' rfl
      have g3 := ovl_old D2 x3 (ovl_in (h := h) (a := a) e3)
      rcases id f2 with ⟨ez, rfl⟩ | ⟨n', g', f3, m1, m2, m3, hg'⟩
      · have w0 : ws = [] := by simpa using ez
        subst w0
        have z0 : zs = [] := List.eq_nil_of_length_eq_zero hl
        subst z0
        refine V_aload_n dJ4_equalsArrayList_0 rfl ?_
        refine V_getfS okJ4 0 dJ4_equalsArrayList_1 q270 q269 (by decide) g2 rfl ?_
        refine V_istore_n dJ4_equalsArrayList_4 (by decide) ?_
        refine V_aload_n dJ4_equalsArrayList_5 rfl ?_
        refine V_getf okJ4 2 dJ4_equalsArrayList_6 q266 (by decide) g1 rfl ?_
        refine V_istore_n dJ4_equalsArrayList_9 (by decide) ?_
        refine V_iload_n dJ4_equalsArrayList_10 rfl ?_
        refine V_aload_n dJ4_equalsArrayList_11 rfl ?_
        refine V_getf okJ4 2 dJ4_equalsArrayList_12 q266 (by decide) g2 rfl ?_
        refine V_icmp_ne 22 dJ4_equalsArrayList_15 (by decide) (by constructor <;> omega) (by constructor <;> omega) (fun c_15 => by exfalso; omega) (fun c_15 => ?_)
        refine V_iconst dJ4_equalsArrayList_18 ?_
        refine V_goto 23 dJ4_equalsArrayList_19 (by decide) ?_
        refine V_dup dJ4_equalsArrayList_23 rfl ?_
        refine V_istore dJ4_equalsArrayList_24 (by decide) ?_
        refine V_if_eq 100 dJ4_equalsArrayList_26 (by decide) (by constructor <;> omega) (fun c_26 => by exfalso; omega) (fun c_26 => ?_)
        refine V_aload_n dJ4_equalsArrayList_29 rfl ?_
        refine V_getf okJ4 1 dJ4_equalsArrayList_30 q263 (by decide) g2 rfl ?_
        refine V_astore dJ4_equalsArrayList_33 (by decide) ?_
        refine V_aload_n dJ4_equalsArrayList_35 rfl ?_
        refine V_getf okJ4 1 dJ4_equalsArrayList_36 q263 (by decide) g1 rfl ?_
        refine V_astore dJ4_equalsArrayList_39 (by decide) ?_
        refine V_iload_n dJ4_equalsArrayList_41 rfl ?_
        refine V_aload dJ4_equalsArrayList_42 rfl ?_
        refine V_alenR dJ4_equalsArrayList_44 g3 rfl ?_
        refine V_icmp_gt 55 dJ4_equalsArrayList_45 (by decide) (by constructor <;> omega) (by constructor <;> omega) (fun c_45 => by exfalso; simp at c_45; try omega) (fun c_45 => ?_)
        refine V_iload_n dJ4_equalsArrayList_48 rfl ?_
        refine V_aload dJ4_equalsArrayList_49 rfl ?_
        refine V_alenK dJ4_equalsArrayList_51 cst.e1 rfl ?_
        refine V_icmp_le 63 dJ4_equalsArrayList_52 (by decide) (by constructor <;> omega) (by constructor <;> omega) (fun c_52 => ?_) (fun c_52 => by exfalso; simp at c_52; try omega)
        refine V_iconst dJ4_equalsArrayList_63 ?_
        refine V_istore dJ4_equalsArrayList_64 (by decide) ?_
        refine V_iload dJ4_equalsArrayList_66 rfl ?_
        refine V_iload_n dJ4_equalsArrayList_68 rfl ?_
        refine V_icmp_ge 100 dJ4_equalsArrayList_69 (by decide) (by constructor <;> omega) (by constructor <;> omega) (fun c_69 => ?_) (fun c_69 => by exfalso; omega)
        exact V.mono (by decide) (Nat.le_refl _) (R 1 _ _ _ _ (Or.inr rfl) (Kt rfl))
      · have g4 := ovl_in (h := ovl h a hh) (a := c) f3
        simp only [List.length_map] at n1 m1
        have main : ∀ i : Int, 0 ≤ i → i ≤ zs.length → (∀ j : Nat, (j : Int) < i → zs[j]? = ws[j]?) → V E mJ4_equalsArrayList 3 0 66 [some (.ref a), some (.ref c), some (vI mc2), some (vI zs.length), some (vI 1), some (.ref ec), some (.ref ea), some (vI i)] [] (ovl (ovl h a hh) c hh2) Q X := by
          intro i i0 i1
          refine loop_upI (P := fun i => (∀ j : Nat, (j : Int) < i → zs[j]? = ws[j]?) → V E mJ4_equalsArrayList 3 0 66 [some (.ref a), some (.ref c), some (vI mc2), some (vI zs.length), some (vI 1), some (.ref ec), some (.ref ea), some (vI i)] [] (ovl (ovl h a hh) c hh2) Q X) i zs.length ?_ i1
          intro i j0 j1 ih hp
          by_cases hi : i < zs.length
          · have hi1 : i.toNat < zs.length := by omega
            have hi2 : i.toNat < ws.length := by omega
            have x1 : g i = some (iA E zs[i.toNat]) := by
              have := hg i.toNat (by omega)
              rw [show ((i.toNat : Nat) : Int) = i by omega] at this
              rw [this, List.getElem?_map, List.getElem?_eq_getElem hi1]
              rfl
            have x2 : g' i = some (iA E ws[i.toNat]) := by
              have := hg' i.toNat (by omega)
              rw [show ((i.toNat : Nat) : Int) = i by omega] at this
              rw [this, List.getElem?_map, List.getElem?_eq_getElem hi2]
              rfl
            by_cases hv : zs[i.toNat] = ws[i.toNat]
            · refine V_iload dJ4_equalsArrayList_66 rfl ?_
              refine V_iload_n dJ4_equalsArrayList_68 rfl ?_
              refine V_icmp_ge 100 dJ4_equalsArrayList_69 (by decide) (by constructor <;> omega) (by constructor <;> omega) (fun c_69 => by exfalso; omega) (fun c_69 => ?_)
              refine V_aload dJ4_equalsArrayList_72 rfl ?_
              refine V_iload dJ4_equalsArrayList_74 rfl ?_
              refine V_aald dJ4_equalsArrayList_76 g3 rfl (by omega) (by omega) (by first | decide | omega) ?_
              refine V_top9 (.ref (iA E zs[i.toNat])) (by rw [x1]; rfl) ?_
              refine V_aload dJ4_equalsArrayList_77 rfl ?_
              refine V_iload dJ4_equalsArrayList_79 rfl ?_
              refine V_aald dJ4_equalsArrayList_81 g4 rfl (by omega) (by omega) (by first | decide | omega) ?_
              refine V_top9 (.ref (iA E ws[i.toNat])) (by rw [x2]; rfl) ?_
              refine V_invS (M' := mJ17_equals) (As := [.ref (iA E zs[i.toNat]), .ref (iA E ws[i.toNat])]) (rest := []) okJ17_equals dJ4_equalsArrayList_82 q1665 rfl rfl rfl (Nat.le_of_ble_eq_true rfl) (d' := 2) (b1 := 0) (by first | decide | omega) (by first | decide | omega) (c_J17_equals (hz _ (List.getElem_mem hi1)) (hw _ (List.getElem_mem hi2)) (fun _ => ?_) (fun e => absurd hv e))
              refine V_if_ne 94 dJ4_equalsArrayList_85 (by decide) (by constructor <;> omega) (fun c_85 => ?_) (fun c_85 => absurd c_85 (by decide))
              refine V_iinc dJ4_equalsArrayList_94 rfl (by decide) ?_
              refine V_goto 66 dJ4_equalsArrayList_97 (by decide) ?_
              exact ih hi (fun j hj => by by_cases e : j = i.toNat; (subst e; rw [List.getElem?_eq_getElem hi1, List.getElem?_eq_getElem hi2, hv]); exact hp j (by omega))
            · refine V_iload dJ4_equalsArrayList_66 rfl ?_
              refine V_iload_n dJ4_equalsArrayList_68 rfl ?_
              refine V_icmp_ge 100 dJ4_equalsArrayList_69 (by decide) (by constructor <;> omega) (by constructor <;> omega) (fun c_69 => by exfalso; omega) (fun c_69 => ?_)
              refine V_aload dJ4_equalsArrayList_72 rfl ?_
              refine V_iload dJ4_equalsArrayList_74 rfl ?_
              refine V_aald dJ4_equalsArrayList_76 g3 rfl (by omega) (by omega) (by first | decide | omega) ?_
              refine V_top9 (.ref (iA E zs[i.toNat])) (by rw [x1]; rfl) ?_
              refine V_aload dJ4_equalsArrayList_77 rfl ?_
              refine V_iload dJ4_equalsArrayList_79 rfl ?_
              refine V_aald dJ4_equalsArrayList_81 g4 rfl (by omega) (by omega) (by first | decide | omega) ?_
              refine V_top9 (.ref (iA E ws[i.toNat])) (by rw [x2]; rfl) ?_
              refine V_invS (M' := mJ17_equals) (As := [.ref (iA E zs[i.toNat]), .ref (iA E ws[i.toNat])]) (rest := []) okJ17_equals dJ4_equalsArrayList_82 q1665 rfl rfl rfl (Nat.le_of_ble_eq_true rfl) (d' := 2) (b1 := 0) (by first | decide | omega) (by first | decide | omega) (c_J17_equals (hz _ (List.getElem_mem hi1)) (hw _ (List.getElem_mem hi2)) (fun e => absurd e hv) (fun _ => ?_))
              refine V_if_ne 94 dJ4_equalsArrayList_85 (by decide) (by constructor <;> omega) (fun c_85 => absurd c_85 (by decide)) (fun c_85 => ?_)
              refine V_iconst dJ4_equalsArrayList_88 ?_
              refine V_istore dJ4_equalsArrayList_89 (by decide) ?_
              refine V_goto 100 dJ4_equalsArrayList_91 (by decide) ?_
              exact V.mono (by decide) (Nat.le_refl _) (R 0 _ _ _ _ (Or.inl rfl) (Kf (ne' _ hi1 hi2 hv)))
          · refine V_iload dJ4_equalsArrayList_66 rfl ?_
            refine V_iload_n dJ4_equalsArrayList_68 rfl ?_
            refine V_icmp_ge 100 dJ4_equalsArrayList_69 (by decide) (by constructor <;> omega) (by constructor <;> omega) (fun c_69 => ?_) (fun c_69 => by exfalso; omega)
            exact V.mono (by decide) (Nat.le_refl _) (R 1 _ _ _ _ (Or.inr rfl) (Kt (List.ext_getElem? (fun j => by by_cases e : j < zs.length; exact hp j (by omega); (rw [List.getElem?_eq_none (by omega), List.getElem?_eq_none (by omega)])))))
        refine V_aload_n dJ4_equalsArrayList_0 rfl ?_
        refine V_getfS okJ4 0 dJ4_equalsArrayList_1 q270 q269 (by decide) g2 rfl ?_
        refine V_istore_n dJ4_equalsArrayList_4 (by decide) ?_
        refine V_aload_n dJ4_equalsArrayList_5 rfl ?_
        refine V_getf okJ4 2 dJ4_equalsArrayList_6 q266 (by decide) g1 rfl ?_
        refine V_istore_n dJ4_equalsArrayList_9 (by decide) ?_
        refine V_iload_n dJ4_equalsArrayList_10 rfl ?_
        refine V_aload_n dJ4_equalsArrayList_11 rfl ?_
        refine V_getf okJ4 2 dJ4_equalsArrayList_12 q266 (by decide) g2 rfl ?_
        refine V_icmp_ne 22 dJ4_equalsArrayList_15 (by decide) (by constructor <;> omega) (by constructor <;> omega) (fun c_15 => by exfalso; omega) (fun c_15 => ?_)
        refine V_iconst dJ4_equalsArrayList_18 ?_
        refine V_goto 23 dJ4_equalsArrayList_19 (by decide) ?_
        refine V_dup dJ4_equalsArrayList_23 rfl ?_
        refine V_istore dJ4_equalsArrayList_24 (by decide) ?_
        refine V_if_eq 100 dJ4_equalsArrayList_26 (by decide) (by constructor <;> omega) (fun c_26 => by exfalso; omega) (fun c_26 => ?_)
        refine V_aload_n dJ4_equalsArrayList_29 rfl ?_
        refine V_getf okJ4 1 dJ4_equalsArrayList_30 q263 (by decide) g2 rfl ?_
        refine V_astore dJ4_equalsArrayList_33 (by decide) ?_
        refine V_aload_n dJ4_equalsArrayList_35 rfl ?_
        refine V_getf okJ4 1 dJ4_equalsArrayList_36 q263 (by decide) g1 rfl ?_
        refine V_astore dJ4_equalsArrayList_39 (by decide) ?_
        refine V_iload_n dJ4_equalsArrayList_41 rfl ?_
        refine V_aload dJ4_equalsArrayList_42 rfl ?_
        refine V_alenR dJ4_equalsArrayList_44 g3 rfl ?_
        refine V_icmp_gt 55 dJ4_equalsArrayList_45 (by decide) (by constructor <;> omega) (by constructor <;> omega) (fun c_45 => by exfalso; omega) (fun c_45 => ?_)
        refine V_iload_n dJ4_equalsArrayList_48 rfl ?_
        refine V_aload dJ4_equalsArrayList_49 rfl ?_
        refine V_alenR dJ4_equalsArrayList_51 g4 rfl ?_
        refine V_icmp_le 63 dJ4_equalsArrayList_52 (by decide) (by constructor <;> omega) (by constructor <;> omega) (fun c_52 => ?_) (fun c_52 => by exfalso; omega)
        refine V_iconst dJ4_equalsArrayList_63 ?_
        refine V_istore dJ4_equalsArrayList_64 (by decide) ?_
        exact main 0 (by omega) (by omega) (fun j hj => by omega)
  · refine V_aload_n dJ4_equalsArrayList_0 rfl ?_
    refine V_getfS okJ4 0 dJ4_equalsArrayList_1 q270 q269 (by decide) g2 rfl ?_
    refine V_istore_n dJ4_equalsArrayList_4 (by decide) ?_
    refine V_aload_n dJ4_equalsArrayList_5 rfl ?_
    refine V_getf okJ4 2 dJ4_equalsArrayList_6 q266 (by decide) g1 rfl ?_
    refine V_istore_n dJ4_equalsArrayList_9 (by decide) ?_
    refine V_iload_n dJ4_equalsArrayList_10 rfl ?_
    refine V_aload_n dJ4_equalsArrayList_11 rfl ?_
    refine V_getf okJ4 2 dJ4_equalsArrayList_12 q266 (by decide) g2 rfl ?_
    refine V_icmp_ne 22 dJ4_equalsArrayList_15 (by decide) (by constructor <;> omega) (by constructor <;> omega) (fun c_15 => ?_) (fun c_15 => by exfalso; omega)
    refine V_iconst dJ4_equalsArrayList_22 ?_
    refine V_dup dJ4_equalsArrayList_23 rfl ?_
    refine V_istore dJ4_equalsArrayList_24 (by decide) ?_
    refine V_if_eq 100 dJ4_equalsArrayList_26 (by decide) (by constructor <;> omega) (fun c_26 => ?_) (fun c_26 => by exfalso; omega)
    exact V.mono (by decide) (Nat.le_refl _) (R 0 _ _ _ _ (Or.inl rfl) (Kf (fun e => hl (by rw [e]))))
end AL6
