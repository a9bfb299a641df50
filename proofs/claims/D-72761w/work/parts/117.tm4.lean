/-! TREES: the TreeMap's methods that turn them -/
section TM4
variable {E : Ev} {M : Mt} {d b pc idx a n i : Nat} {ls : List (Option Value)} {rest st : List Value} {h hh : AH} {Q : Value → AH → Prop} {X : Nat → AH → Prop} {ad K W : Nat → Nat} {vs cmp nk : Value} {sz mc : Int} {T : TT} {o : Option Nat}
theorem VT_putSz {z : Int} (P : TH h a n ad K W vs cmp nk sz mc hh T) (hdg : decode M.2.1 pc = .ok (.putfield idx, 3)) (q : Cond.fieldLink M.1.cls idx (TJ1 4).1 (TJ1 4).2.1 (TJ1 4).2.2.1 ∈ lw_all) (kk : ∀ hh', TH h a n ad K W vs cmp nk z mc hh' T → V E M d b (pc + 3) ls rest (ovl h a hh') Q X) : V E M d b pc ls (vI z :: .ref a :: rest) (ovl h a hh) Q X :=
  V_putfE (fs' := [.null, vs, cmp, va_rf ((T 3 0).map ad), vI z, vI mc, .null, nk, .null]) okJ1 4 hdg q (by decide) rfl P.ob (by decide) (Nat.le_of_ble_eq_true rfl) rfl rfl rfl ovl_set (kk _ (P.putO (fun _ _ _ => rfl) P.2.2.2.2.2 P.1.2))
theorem VT_putMc {z : Int} (P : TH h a n ad K W vs cmp nk sz mc hh T) (hdg : decode M.2.1 pc = .ok (.putfield idx, 3)) (q : Cond.fieldLink M.1.cls idx (TJ1 5).1 (TJ1 5).2.1 (TJ1 5).2.2.1 ∈ lw_all) (kk : ∀ hh', TH h a n ad K W vs cmp nk sz z hh' T → V E M d b (pc + 3) ls rest (ovl h a hh') Q X) : V E M d b pc ls (vI z :: .ref a :: rest) (ovl h a hh) Q X :=
  V_putfE (fs' := [.null, vs, cmp, va_rf ((T 3 0).map ad), vI sz, vI z, .null, nk, .null]) okJ1 5 hdg q (by decide) rfl P.ob (by decide) (Nat.le_of_ble_eq_true rfl) rfl rfl rfl ovl_set (kk _ (P.putO (fun _ _ _ => rfl) P.2.2.2.2.2 P.1.2))
theorem VT_putVs {v : Value} {ref : String} (P : TH h a n ad K W vs cmp nk sz mc hh T) (hdg : decode M.2.1 pc = .ok (.putfield idx, 3)) (q : Cond.fieldLink M.1.cls idx ref (TJ1 1).2.1 (TJ1 1).2.2.1 ∈ lw_all) (qs : Cond.sameField ref (TJ1 1).1 (TJ1 1).2.1 (TJ1 1).2.2.1 ∈ lw_all) (hw : VW a v nk hh) (kk : ∀ hh', TH h a n ad K W v cmp nk sz mc hh' T → V E M d b (pc + 3) ls rest (ovl h a hh') Q X) : V E M d b pc ls (v :: .ref a :: rest) (ovl h a hh) Q X :=
  V_putSE (fs' := [.null, v, cmp, va_rf ((T 3 0).map ad), vI sz, vI mc, .null, nk, .null]) okJ1 1 hdg q qs (by decide) rfl P.ob (by decide) (Nat.le_of_ble_eq_true rfl) (isR.narO hw.isR.1) (isR.fitO hw.isR.1) rfl ovl_set (kk _ (P.putO (fun _ _ _ => rfl) P.2.2.2.2.2 hw))
theorem VT_putNk {v : Value} (P : TH h a n ad K W vs cmp nk sz mc hh T) (hdg : decode M.2.1 pc = .ok (.putfield idx, 3)) (q : Cond.fieldLink M.1.cls idx (TJ1 7).1 (TJ1 7).2.1 (TJ1 7).2.2.1 ∈ lw_all) (hw : VW a vs v hh) (kk : ∀ hh', TH h a n ad K W vs cmp v sz mc hh' T → V E M d b (pc + 3) ls rest (ovl h a hh') Q X) : V E M d b pc ls (v :: .ref a :: rest) (ovl h a hh) Q X :=
  V_putfE (fs' := [.null, vs, cmp, va_rf ((T 3 0).map ad), vI sz, vI mc, .null, v, .null]) okJ1 7 hdg q (by decide) rfl P.ob (by decide) (Nat.le_of_ble_eq_true rfl) (isR.narO hw.isR.2) (isR.fitO hw.isR.2) rfl ovl_set (kk _ (P.putO (fun _ _ _ => rfl) P.2.2.2.2.2 hw))
theorem c_J1_parentOf (P : TH h a n ad K W vs cmp nk sz mc hh T) (ho : ∀ j, o = some j → j < n) (K' : Q (va_rf (Option.map ad (o.bind (T 2)))) (ovl h a hh)) : V E mJ1_parentOf 0 0 0 [some (va_rf (Option.map ad o))] [] (ovl h a hh) Q X := by
  rcases o with _ | i
  · refine V_aload_nN dJ1_parentOf_0 rfl ?_
    refine V_ifnonnullN dJ1_parentOf_1 ?_
    refine V_null dJ1_parentOf_4 ?_
    refine V_goto 12 dJ1_parentOf_5 (by decide) ?_
    exact V_aret dJ1_parentOf_12 rfl rfl (Or.inl rfl) (by exact K')
  · refine V_aload_n dJ1_parentOf_0 rfl ?_
    refine V_ifnonnull 8 dJ1_parentOf_1 (by decide) ?_
    refine V_aload_n dJ1_parentOf_8 rfl ?_
    refine VT_get 2 (by decide) P (ho i rfl) dJ1_parentOf_9 q663 (o := T 2 i) rfl ?_
    exact V_aret dJ1_parentOf_12 rfl rfl (isR.or isR.rf) (by exact K')
theorem c_J1_leftOf (P : TH h a n ad K W vs cmp nk sz mc hh T) (ho : ∀ j, o = some j → j < n) (K' : Q (va_rf (Option.map ad (o.bind (T 0)))) (ovl h a hh)) : V E mJ1_leftOf 0 0 0 [some (va_rf (Option.map ad o))] [] (ovl h a hh) Q X := by
  rcases o with _ | i
  · refine V_aload_nN dJ1_leftOf_0 rfl ?_
    refine V_ifnonnullN dJ1_leftOf_1 ?_
    refine V_null dJ1_leftOf_4 ?_
    refine V_goto 12 dJ1_leftOf_5 (by decide) ?_
    exact V_aret dJ1_leftOf_12 rfl rfl (Or.inl rfl) (by exact K')
  · refine V_aload_n dJ1_leftOf_0 rfl ?_
    refine V_ifnonnull 8 dJ1_leftOf_1 (by decide) ?_
    refine V_aload_n dJ1_leftOf_8 rfl ?_
    refine VT_get 0 (by decide) P (ho i rfl) dJ1_leftOf_9 q660 (o := T 0 i) rfl ?_
    exact V_aret dJ1_leftOf_12 rfl rfl (isR.or isR.rf) (by exact K')
theorem c_J1_rightOf (P : TH h a n ad K W vs cmp nk sz mc hh T) (ho : ∀ j, o = some j → j < n) (K' : Q (va_rf (Option.map ad (o.bind (T 1)))) (ovl h a hh)) : V E mJ1_rightOf 0 0 0 [some (va_rf (Option.map ad o))] [] (ovl h a hh) Q X := by
  rcases o with _ | i
  · refine V_aload_nN dJ1_rightOf_0 rfl ?_
    refine V_ifnonnullN dJ1_rightOf_1 ?_
    refine V_null dJ1_rightOf_4 ?_
    refine V_goto 12 dJ1_rightOf_5 (by decide) ?_
    exact V_aret dJ1_rightOf_12 rfl rfl (Or.inl rfl) (by exact K')
  · refine V_aload_n dJ1_rightOf_0 rfl ?_
    refine V_ifnonnull 8 dJ1_rightOf_1 (by decide) ?_
    refine V_aload_n dJ1_rightOf_8 rfl ?_
    refine VT_get 1 (by decide) P (ho i rfl) dJ1_rightOf_9 q661 (o := T 1 i) rfl ?_
    exact V_aret dJ1_rightOf_12 rfl rfl (isR.or isR.rf) (by exact K')
theorem c_J1_colorOf (P : TH h a n ad K W vs cmp nk sz mc hh T) (ho : ∀ j, o = some j → j < n) (K' : Q (vI (cO T o)) (ovl h a hh)) : V E mJ1_colorOf 0 0 0 [some (va_rf (Option.map ad o))] [] (ovl h a hh) Q X := by
  rcases o with _ | i
  · refine V_aload_nN dJ1_colorOf_0 rfl ?_
    refine V_ifnonnullN dJ1_colorOf_1 ?_
    refine V_iconst dJ1_colorOf_4 ?_
    refine V_goto 12 dJ1_colorOf_5 (by decide) ?_
    exact V_zret dJ1_colorOf_12 rfl (by first | decide | omega) (by exact K')
  · have hc : cV (T 4 i) = 0 ∨ cV (T 4 i) = 1 := by cases T 4 i <;> simp [cV]
    refine V_aload_n dJ1_colorOf_0 rfl ?_
    refine V_ifnonnull 8 dJ1_colorOf_1 (by decide) ?_
    refine V_aload_n dJ1_colorOf_8 rfl ?_
    refine VT_getC P (ho i rfl) dJ1_colorOf_9 q665 (o := T 4 i) rfl ?_
    exact V_zret dJ1_colorOf_12 rfl (by first | decide | omega) (by exact K')
theorem c_J1_setColor {c : Option Nat} (P : TH h a n ad K W vs cmp nk sz mc hh T) (ho : ∀ j, o = some j → j < n) (K' : ∀ hh', TH h a n ad K W vs cmp nk sz mc hh' (stC T o c) → Q .null (ovl h a hh')) : V E mJ1_setColor 0 0 0 [some (va_rf (Option.map ad o)), some (vI (cV c))] [] (ovl h a hh) Q X := by
  rcases o with _ | i
  · refine V_aload_nN dJ1_setColor_0 rfl ?_
    refine V_ifnullN 9 dJ1_setColor_1 (by decide) ?_
    exact V_vret dJ1_setColor_9 rfl (by exact K' _ P)
  · refine V_aload_n dJ1_setColor_0 rfl ?_
    refine V_ifnull dJ1_setColor_1 ?_
    refine V_aload_n dJ1_setColor_4 rfl ?_
    refine V_iload_n dJ1_setColor_5 rfl ?_
    refine VT_putC P (ho i rfl) dJ1_setColor_6 q665 (c) rfl (fun hh6_1 P6_1 => ?_)
    exact V_vret dJ1_setColor_9 rfl (by exact K' _ P6_1)
end TM4
