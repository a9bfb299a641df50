/-! COMPARING: Integers, and blocks by when they begin -/
theorem iCmp_i (a b : Int) : inr (iCmp a b) := by unfold iCmp; split <;> (try split) <;> decide
/-- what a map's order says of two keys -/
def cmpOk (E : Ev) (h : AH) (cmp : Value) (k1 k2 : Nat) (z : Int) : Prop :=
  (cmp = .null ∧ ∃ x y : Int, (-128 ≤ x ∧ x ≤ 127) ∧ (-128 ≤ y ∧ y ≤ 127) ∧ k1 = iA E x ∧ k2 = iA E y ∧ z = iCmp x y) ∨
  (∃ c, cmp = .ref c ∧ h c = some (oO 29 []) ∧ ∃ (n1 t1 n2 t2 : Int) (f1 f2 : List Value), h k1 = some (oO 4 (vI n1 :: vI t1 :: f1)) ∧ h k2 = some (oO 4 (vI n2 :: vI t2 :: f2)) ∧ inr n1 ∧ inr t1 ∧ inr n2 ∧ inr t2 ∧ z = if t1 = t2 then iCmp n1 n2 else iCmp t1 t2)
theorem cmpOk.inr {E : Ev} {h : AH} {cmp : Value} {k1 k2 : Nat} {z : Int} (c : cmpOk E h cmp k1 k2 z) : inr z := by
  rcases c with ⟨-, x, y, -, -, -, -, rfl⟩ | ⟨c, -, -, n1, t1, n2, t2, f1, f2, -, -, -, -, -, -, rfl⟩
  · exact iCmp_i _ _
  · split <;> exact iCmp_i _ _
section CMP
variable {E : Ev} {h : AH} {Q : Value → AH → Prop} {X : Nat → AH → Prop}
theorem c_J8_compareTo_2 {x y : Int} (hx : -128 ≤ x ∧ x ≤ 127) (hy : -128 ≤ y ∧ y ≤ 127) (K : Q (vI (iCmp x y)) h) : V E mJ8_compareTo_2 2 0 0 [some (.ref (iA E x)), some (.ref (iA E y))] [] h Q X := by
  refine V_aload_n dJ8_compareTo_2_0 rfl ?_
  refine V_getfK okJ8 0 dJ8_compareTo_2_1 q1363 (by decide) (cst.int hx.1 hx.2) rfl ?_
  refine V_aload_n dJ8_compareTo_2_4 rfl ?_
  refine V_getfK okJ8 0 dJ8_compareTo_2_5 q1363 (by decide) (cst.int hy.1 hy.2) rfl ?_
  refine V_invS (M' := mJ8_compare) (As := [vI x, vI y]) (rest := []) okJ8_compare dJ8_compareTo_2_8 q461 rfl rfl rfl (Nat.le_of_ble_eq_true rfl) (d' := 1) (b1 := 0) (by first | decide | omega) (by first | decide | omega) (c_J8_compare (by constructor <;> omega) (by constructor <;> omega) ?_)
  exact V_iret dJ8_compareTo_2_11 rfl (by exact K)
theorem c_J8_compareTo {x y : Int} (hx : -128 ≤ x ∧ x ≤ 127) (hy : -128 ≤ y ∧ y ≤ 127) (K : Q (vI (iCmp x y)) h) : V E mJ8_compareTo 3 0 0 [some (.ref (iA E x)), some (.ref (iA E y))] [] h Q X := by
  refine V_aload_n dJ8_compareTo_0 rfl ?_
  refine V_aload_n dJ8_compareTo_1 rfl ?_
  refine V_castE dJ8_compareTo_2 q456 rfl (Or.inr ⟨_, (cst.int hy.1 hy.2)⟩) ?_
  refine V_invVc (M' := mJ8_compareTo_2) (As := [.ref (iA E y)]) (rest := []) okJ8_compareTo_2 dJ8_compareTo_5 q457 rfl rfl (Or.inr ⟨_, (cst.int hx.1 hx.2)⟩) rfl rfl (Nat.le_of_ble_eq_true rfl) (d' := 2) (b1 := 0) (by first | decide | omega) (by first | decide | omega) (c_J8_compareTo_2 hx hy ?_)
  exact V_iret dJ8_compareTo_8 rfl (by exact K)
theorem c_X5_compare_2 {c k1 k2 : Nat} {n1 t1 n2 t2 : Int} {f1 f2 : List Value} (h1 : h k1 = some (oO 4 (vI n1 :: vI t1 :: f1))) (h2 : h k2 = some (oO 4 (vI n2 :: vI t2 :: f2))) (i1 : inr n1) (i2 : inr t1) (i3 : inr n2) (i4 : inr t2) (K : Q (vI (if t1 = t2 then iCmp n1 n2 else iCmp t1 t2)) h) : V E mX5_compare_2 2 0 0 [some (.ref c), some (.ref k1), some (.ref k2)] [] h Q X := by
  refine V_aload_n dX5_compare_2_0 rfl ?_
  refine V_getfN okX6 1 dX5_compare_2_1 (List.mem_append_left _ q340) (by decide) h1 rfl ?_
  refine V_aload_n dX5_compare_2_4 rfl ?_
  refine V_getfN okX6 1 dX5_compare_2_5 (List.mem_append_left _ q340) (by decide) h2 rfl ?_
  refine V_icmp_eq 25 dX5_compare_2_8 (by decide) i2 i4 (fun c8 => ?_) (fun c8 => ?_)
  · rw [if_pos c8] at K
    refine V_aload_n dX5_compare_2_25 rfl ?_
    refine V_getfN okX6 0 dX5_compare_2_26 (List.mem_append_left _ q338) (by decide) h1 rfl ?_
    refine V_aload_n dX5_compare_2_29 rfl ?_
    refine V_getfN okX6 0 dX5_compare_2_30 (List.mem_append_left _ q338) (by decide) h2 rfl ?_
    refine V_invS (M' := mJ8_compare) (As := [vI n1, vI n2]) (rest := []) okJ8_compare dX5_compare_2_33 q644 rfl rfl rfl (Nat.le_of_ble_eq_true rfl) (d' := 1) (b1 := 0) (by decide) (by decide) (c_J8_compare i1 i3 ?_)
    exact V_iret dX5_compare_2_36 rfl K
  · rw [if_neg c8] at K
    refine V_aload_n dX5_compare_2_11 rfl ?_
    refine V_getfN okX6 1 dX5_compare_2_12 (List.mem_append_left _ q340) (by decide) h1 rfl ?_
    refine V_aload_n dX5_compare_2_15 rfl ?_
    refine V_getfN okX6 1 dX5_compare_2_16 (List.mem_append_left _ q340) (by decide) h2 rfl ?_
    refine V_invS (M' := mJ8_compare) (As := [vI t1, vI t2]) (rest := []) okJ8_compare dX5_compare_2_19 q644 rfl rfl rfl (Nat.le_of_ble_eq_true rfl) (d' := 1) (b1 := 0) (by decide) (by decide) (c_J8_compare i2 i4 ?_)
    refine V_goto 36 dX5_compare_2_22 (by decide) ?_
    exact V_iret dX5_compare_2_36 rfl K
theorem c_X5_compare {c k1 k2 : Nat} {n1 t1 n2 t2 : Int} {f1 f2 : List Value} (hc : h c = some (oO 29 [])) (h1 : h k1 = some (oO 4 (vI n1 :: vI t1 :: f1))) (h2 : h k2 = some (oO 4 (vI n2 :: vI t2 :: f2))) (i1 : inr n1) (i2 : inr t1) (i3 : inr n2) (i4 : inr t2) (K : Q (vI (if t1 = t2 then iCmp n1 n2 else iCmp t1 t2)) h) : V E mX5_compare 3 0 0 [some (.ref c), some (.ref k1), some (.ref k2)] [] h Q X := by
  refine V_aload_n dX5_compare_0 rfl ?_
  refine V_aload_n dX5_compare_1 rfl ?_
  refine V_castE dX5_compare_2 q639 rfl (clsE.o h1) ?_
  refine V_aload_n dX5_compare_5 rfl ?_
  refine V_castE dX5_compare_6 q639 rfl (clsE.o h2) ?_
  refine V_invVc (M' := mX5_compare_2) (As := [.ref k1, .ref k2]) (rest := []) okX5_compare_2 dX5_compare_9 q640 rfl rfl (clsE.o hc) rfl rfl (Nat.le_of_ble_eq_true rfl) (d' := 2) (b1 := 0) (by first | decide | omega) (by first | decide | omega) (c_X5_compare_2 h1 h2 i1 i2 i3 i4 ?_)
  exact V_iret dX5_compare_12 rfl (by exact K)
theorem c_J1_compare {a k1 k2 : Nat} {cmp v0 v1 v3 v4 v5 v6 v7 v8 : Value} {z : Int} (ha : h a = some (oO 15 [v0, v1, cmp, v3, v4, v5, v6, v7, v8])) (hk : cmpOk E h cmp k1 k2 z) (K : Q (vI z) h) : V E mJ1_compare 4 0 0 [some (.ref a), some (.ref k1), some (.ref k2)] [] h Q X := by
  rcases hk with ⟨rfl, x, y, hx, hy, rfl, rfl, rfl⟩ | ⟨c, rfl, hc, n1, t1, n2, t2, f1, f2, h1, h2, i1, i2, i3, i4, rfl⟩
  · refine V_aload_n dJ1_compare_0 rfl ?_
    refine V_getf okJ1 2 dJ1_compare_1 q189 (by decide) ha rfl ?_
    refine V_ifnonnullN dJ1_compare_4 ?_
    refine V_aload_n dJ1_compare_7 rfl ?_
    refine V_castY dJ1_compare_8 q431 rfl (List.mem_append_left _ q450) (Or.inr ⟨_, (cst.int hx.1 hx.2)⟩) ?_
    refine V_aload_n dJ1_compare_11 rfl ?_
    refine V_invF (M' := mJ8_compareTo) (As := [.ref (iA E y)]) (rest := []) (C0 := "java/lang/Integer") (x := ⟨"java/lang/Comparable", "compareTo", "(Ljava/lang/Object;)I"⟩) okmJ8_compareTo (show OkX "java/lang/Comparable" ⟨"java/lang/Comparable", "compareTo", "(Ljava/lang/Object;)I"⟩ 1 from ⟨by decide +kernel, by decide +kernel, by decide +kernel⟩) dJ1_compare_12 q433 q451 (List.mem_append_left _ q435) (List.mem_append_left _ q434) (List.mem_append_left _ q454) (List.mem_append_left _ q452) (List.mem_append_left _ q450) rfl rfl (Or.inr ⟨_, (cst.int hx.1 hx.2)⟩) rfl rfl (Nat.le_of_ble_eq_true rfl) (d' := 3) (b1 := 0) (by first | decide | omega) (by first | decide | omega) (c_J8_compareTo hx hy ?_)
    refine V_goto 31 dJ1_compare_17 (by decide) ?_
    exact V_iret dJ1_compare_31 rfl (by exact K)
  · refine V_aload_n dJ1_compare_0 rfl ?_
    refine V_getf okJ1 2 dJ1_compare_1 q189 (by decide) ha rfl ?_
    refine V_ifnonnull 20 dJ1_compare_4 (by decide) ?_
    refine V_aload_n dJ1_compare_20 rfl ?_
    refine V_getf okJ1 2 dJ1_compare_21 q189 (by decide) ha rfl ?_
    refine V_aload_n dJ1_compare_24 rfl ?_
    refine V_aload_n dJ1_compare_25 rfl ?_
    refine V_invF (M' := mX5_compare) (As := [.ref k1, .ref k2]) (rest := []) (C0 := "SignalWaves$ByBegin") (x := ⟨"java/util/Comparator", "compare", "(Ljava/lang/Object;Ljava/lang/Object;)I"⟩) okmX5_compare (show OkX "java/util/Comparator" ⟨"java/util/Comparator", "compare", "(Ljava/lang/Object;Ljava/lang/Object;)I"⟩ 2 from ⟨by decide +kernel, by decide +kernel, by decide +kernel⟩) dJ1_compare_26 q630 q634 (List.mem_append_left _ q632) (List.mem_append_left _ q631) (List.mem_append_left _ q637) (List.mem_append_left _ q635) (List.mem_append_left _ q633) rfl rfl (clsE.o hc) rfl rfl (Nat.le_of_ble_eq_true rfl) (d' := 3) (b1 := 0) (by first | decide | omega) (by first | decide | omega) (c_X5_compare hc h1 h2 i1 i2 i3 i4 ?_)
    exact V_iret dJ1_compare_31 rfl (by exact K)
end CMP
