/-! THE JDK's SMALL FUNCTIONS -/
abbrev mJ24_checkIndex : Mt := (yJ24_checkIndex, cJ24_checkIndex, 3, some .int, [])
theorem okJ24_checkIndex : OkS mJ24_checkIndex 3 := ⟨q1740, q128, q1741, ⟨by decide +kernel, by decide +kernel, by decide +kernel⟩, by decide +kernel, rfl, by decide, by decide⟩
def iMin (a b : Int) : Int := if a ≤ b then a else b
def iMax (a b : Int) : Int := if b ≤ a then a else b
def iCmp (a b : Int) : Int := if a < b then -1 else if a = b then 0 else 1
section J1s
variable {E : Ev} {h : AH} {Q : Value → AH → Prop} {X : Nat → AH → Prop}
theorem V_mmin {M : Mt} {d b pc idx : Nat} {ls : List (Option Value)} {rest : List Value} {x y : Int} (hdg : decode M.2.1 pc = .ok (.invokestatic idx, 3)) (q : Cond.methodLink M.1.cls idx ⟨"java/lang/Math", "min", "(II)I"⟩ ∈ lw_all) (hx : inr x) (hy : inr y) (hW : (rest.map fun v => v.category).sum ≤ 8) (hd : 1 ≤ d) (k : V E M d b (pc + 3) ls (vI (iMin x y) :: rest) h Q X) : V E M d b pc ls (vI y :: vI x :: rest) h Q X := by
  intro p l e R s m args below meth c H locs cells slots mc ms arr C hS hR hL h1 h2 h3 h4 h5 h6
  refine va_mmin C.1 C.2.1 (by rw [C.2.2.1]; exact hL.1.symm) C.2.2.2.1 (C.2.2.2.2.1 _ q) (C.2.2.2.2.1 _ q486) (C.2.2.2.2.1 _ q112) (C.2.2.2.2.1 _ q487) (by omega) (by omega) (by omega) (by omega) hdg ?_
  have e9 : (if Int32.ofInt y < Int32.ofInt x then Int32.ofInt y else Int32.ofInt x) = Int32.ofInt (iMin x y) := by
    unfold iMin
    by_cases c : y < x
    · rw [if_pos ((vI_lt hy hx).2 c), if_neg (by omega)]
    · rw [if_neg (fun z => c ((vI_lt hy hx).1 z)), if_pos (by omega)]
  rw [e9]
  exact k p l e R s m args below meth c H locs cells slots mc ms arr C hS hR hL h1 h2 h3 h4 h5 h6
theorem V_mmax {M : Mt} {d b pc idx : Nat} {ls : List (Option Value)} {rest : List Value} {x y : Int} (hdg : decode M.2.1 pc = .ok (.invokestatic idx, 3)) (q : Cond.methodLink M.1.cls idx ⟨"java/lang/Math", "max", "(II)I"⟩ ∈ lw_all) (hx : inr x) (hy : inr y) (hW : (rest.map fun v => v.category).sum ≤ 8) (hd : 1 ≤ d) (k : V E M d b (pc + 3) ls (vI (iMax x y) :: rest) h Q X) : V E M d b pc ls (vI y :: vI x :: rest) h Q X := by
  intro p l e R s m args below meth c H locs cells slots mc ms arr C hS hR hL h1 h2 h3 h4 h5 h6
  refine va_mmax C.1 C.2.1 (by rw [C.2.2.1]; exact hL.1.symm) C.2.2.2.1 (C.2.2.2.2.1 _ q) (C.2.2.2.2.1 _ q1205) (C.2.2.2.2.1 _ q112) (C.2.2.2.2.1 _ q1206) (by omega) (by omega) (by omega) (by omega) hdg ?_
  have e9 : (if Int32.ofInt x < Int32.ofInt y then Int32.ofInt y else Int32.ofInt x) = Int32.ofInt (iMax x y) := by
    unfold iMax
    by_cases c : x < y
    · rw [if_pos ((vI_lt hx hy).2 c), if_neg (by omega)]
    · rw [if_neg (fun z => c ((vI_lt hx hy).1 z)), if_pos (by omega)]
  rw [e9]
  exact k p l e R s m args below meth c H locs cells slots mc ms arr C hS hR hL h1 h2 h3 h4 h5 h6
theorem c_J8_compare {a b : Int} (ha : inr a) (hb : inr b) (K : Q (vI (iCmp a b)) h) : V E mJ8_compare 1 0 0 [some (vI a), some (vI b)] [] h Q X := by
  unfold iCmp at K
  refine V_iload_n dJ8_compare_0 rfl ?_
  refine V_iload_n dJ8_compare_1 rfl ?_
  refine V_icmp_ge 9 dJ8_compare_2 (by decide) (by first | omega | exact hr_g _ _ | decide) (by first | omega | exact hr_g _ _ | decide) (fun c_2 => ?_) (fun c_2 => ?_)
  · refine V_iload_n dJ8_compare_9 rfl ?_
    refine V_iload_n dJ8_compare_10 rfl ?_
    refine V_icmp_ne 18 dJ8_compare_11 (by decide) (by first | omega | exact hr_g _ _ | decide) (by first | omega | exact hr_g _ _ | decide) (fun c_11 => ?_) (fun c_11 => ?_)
    · refine V_iconst dJ8_compare_18 ?_
      exact V_iret dJ8_compare_19 rfl (by first | (rw [if_pos (by omega)] at K; exact K) | (rw [if_neg (by omega), if_pos (by omega)] at K; exact K) | (rw [if_neg (by omega), if_neg (by omega)] at K; exact K))
    · refine V_iconst dJ8_compare_14 ?_
      refine V_goto 19 dJ8_compare_15 (by decide) ?_
      exact V_iret dJ8_compare_19 rfl (by first | (rw [if_pos (by omega)] at K; exact K) | (rw [if_neg (by omega), if_pos (by omega)] at K; exact K) | (rw [if_neg (by omega), if_neg (by omega)] at K; exact K))
  · refine V_iconst dJ8_compare_5 ?_
    refine V_goto 19 dJ8_compare_6 (by decide) ?_
    exact V_iret dJ8_compare_19 rfl (by first | (rw [if_pos (by omega)] at K; exact K) | (rw [if_neg (by omega), if_pos (by omega)] at K; exact K) | (rw [if_neg (by omega), if_neg (by omega)] at K; exact K))
theorem c_J12_newLength {a b c : Int} (ha : 0 ≤ a ∧ a ≤ 10000) (hb : 0 ≤ b ∧ b ≤ 10000) (hc : 0 ≤ c ∧ c ≤ 10000) (hp : 0 < a + iMax b c) (K : Q (vI (a + iMax b c)) h) : V E mJ12_newLength 2 0 0 [some (vI a), some (vI b), some (vI c), none] [] h Q X := by
  have hm : iMax b c ≤ 10000 ∧ 0 ≤ iMax b c := by unfold iMax; split <;> omega
  refine V_iload_n dJ12_newLength_0 rfl ?_
  refine V_iload_n dJ12_newLength_1 rfl ?_
  refine V_iload_n dJ12_newLength_2 rfl ?_
  refine V_mmax dJ12_newLength_3 q1416 (by first | omega | decide | (constructor <;> omega)) (by first | omega | decide | (constructor <;> omega)) (Nat.le_of_ble_eq_true rfl) (by decide) ?_
  refine V_iadd dJ12_newLength_6 ?_
  refine V_istore_n dJ12_newLength_7 (by decide) ?_
  refine V_iconst dJ12_newLength_8 ?_
  refine V_iload_n dJ12_newLength_9 rfl ?_
  refine V_icmp_ge 21 dJ12_newLength_10 (by decide) (by first | omega | decide | (constructor <;> omega)) (by first | omega | decide | (constructor <;> omega)) (fun c_10 => by exfalso; omega) (fun c_10 => ?_)
  refine V_iload_n dJ12_newLength_13 rfl ?_
  refine V_ldc dJ12_newLength_14 q1417 (z := 2147483639) rfl ?_
  refine V_icmp_gt 21 dJ12_newLength_16 (by decide) (by first | omega | decide | (constructor <;> omega)) (by first | omega | decide | (constructor <;> omega)) (fun c_16 => by exfalso; omega) (fun c_16 => ?_)
  refine V_iload_n dJ12_newLength_19 rfl ?_
  exact V_iret dJ12_newLength_20 rfl (by exact K)
theorem c_J24_checkIndex {i n : Int} {v : Option Value} (hi : 0 ≤ i ∧ i < n) (hn : inr n) (K : Q (vI i) h) : V E mJ24_checkIndex 1 0 0 [some (vI i), some (vI n), v] [] h Q X := by
  refine V_iload_n dJ24_checkIndex_0 rfl ?_
  refine V_if_lt 9 dJ24_checkIndex_1 (by decide) (by first | omega | (constructor <;> omega)) (fun c_1 => by exfalso; omega) (fun c_1 => ?_)
  refine V_iload_n dJ24_checkIndex_4 rfl ?_
  refine V_iload_n dJ24_checkIndex_5 rfl ?_
  refine V_icmp_lt 16 dJ24_checkIndex_6 (by decide) (by first | omega | (constructor <;> omega)) (by first | omega | (constructor <;> omega)) (fun c_6 => ?_) (fun c_6 => by exfalso; omega)
  refine V_iload_n dJ24_checkIndex_16 rfl ?_
  exact V_iret dJ24_checkIndex_17 rfl (by exact K)
theorem c_J17_checkIndex {i n : Int} (hi : 0 ≤ i ∧ i < n) (hn : inr n) (K : Q (vI i) h) : V E mJ17_checkIndex 2 0 0 [some (vI i), some (vI n)] [] h Q X := by
  refine V_iload_n dJ17_checkIndex_0 rfl ?_
  refine V_iload_n dJ17_checkIndex_1 rfl ?_
  refine V_null dJ17_checkIndex_2 ?_
  refine VS_c3 (M' := mJ24_checkIndex) okJ24_checkIndex dJ17_checkIndex_3 q1739 rfl rfl (Nat.le_of_ble_eq_true rfl) (d' := 1) (b1 := 0) (by decide) (by decide) (c_J24_checkIndex hi hn ?_)
  exact V_iret dJ17_checkIndex_6 rfl (by exact K)
end J1s
