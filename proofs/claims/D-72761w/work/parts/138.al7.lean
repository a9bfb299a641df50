/-! ARRAYLIST, VII: equals; LISTS OF A SET -/
section AL7
variable {E : Ev} {M : Mt} {d b pc : Nat} {ls : List (Option Value)} {st : List Value} {h : AH} {Q : Value → AH → Prop} {X : Nat → AH → Prop} {a c : Nat} {mc mc2 : Int} {zs ws : List Int} {hh : AH} {l : List Nat}
theorem c_J4_equals (ha : h a = some (cAL E a mc (zs.map (iA E)))) (hc : h c = some (cAL E c mc2 (ws.map (iA E)))) (nac : a ≠ c) (hz : ∀ z ∈ zs, -128 ≤ z ∧ z ≤ 127) (hw : ∀ z ∈ ws, -128 ≤ z ∧ z ≤ 127) (Kt : zs = ws → Q (vI 1) h) (Kf : zs ≠ ws → Q (vI 0) h) : V E mJ4_equals 4 0 0 [some (.ref a), some (.ref c), none, none] [] h Q X := by
  have main : ∀ r : Int, (r = 0 ∨ r = 1) → Q (vI r) h → V E mJ4_equals 4 0 54 [some (.ref a), some (.ref c), some (vI mc), none] [vI r] h Q X := by
    intro r hr hQ
    refine V_open ha (fun hh P D => ?_)
    obtain ⟨ea, e1, e2⟩ := id P
    refine V_istore_n dJ4_equals_54 (by decide) ?_
    refine V_aload_n dJ4_equals_55 rfl ?_
    refine V_iload_n dJ4_equals_56 rfl ?_
    refine V_invVc (M' := mJ4_checkForComodification) (As := [vI mc]) (rest := []) okJ4_checkForComodification dJ4_equals_57 q1703 rfl rfl (clsE.o (ovl_in e1)) rfl rfl (Nat.le_of_ble_eq_true rfl) (d' := 0) (b1 := 0) (by first | decide | omega) (by first | decide | omega) (c_J4_checkForComodification (ovl_in e1) ?_)
    refine V_iload_n dJ4_equals_60 rfl ?_
    refine V_shut ha P e1 D ?_
    rcases hr with rfl | rfl <;> exact V_zret dJ4_equals_61 rfl (by decide) hQ
  refine V_open ha (fun hh P D => ?_)
  obtain ⟨ea, e1, e2⟩ := id P
  have hc' := ovl_old D nac.symm hc
  refine V_aload_n dJ4_equals_0 rfl ?_
  refine V_aload_n dJ4_equals_1 rfl ?_
  refine V_acmp_ne (rx := (some c)) (ry := (some a)) 7 dJ4_equals_2 (by decide) (fun _ => ?_) (fun c_2 => absurd (Option.some.inj c_2) (Ne.symm nac))
  refine V_aload_n dJ4_equals_7 rfl ?_
  refine V_instY dJ4_equals_8 q1658 rfl (List.mem_append_left _ q1384) (clsE.c hc') ?_
  refine V_if_ne 16 dJ4_equals_11 (by decide) (by first | omega | decide) (fun c_11 => ?_) (fun c_11 => absurd c_11 (by decide))
  refine V_aload_n dJ4_equals_16 rfl ?_
  refine V_getfS okJ4 0 dJ4_equals_17 q270 q269 (by decide) (ovl_in e1) rfl ?_
  refine V_istore_n dJ4_equals_20 (by decide) ?_
  refine V_shut ha P e1 D ?_
  refine V_aload_n dJ4_equals_21 rfl ?_
  refine V_getC (mi := (E.2.2.2 11)) dJ4_equals_22 q1659 q1445 (List.mem_of_getElem? (i := 1) rfl) (clsE.c hc) rfl (Nat.le_of_ble_eq_true rfl) (by first | decide | omega) ?_
  refine V_ldcM (mi := (E.2.2.2 11)) dJ4_equals_25 q1660 (List.mem_of_getElem? (i := 1) rfl) ?_
  refine V_acmp_ne (rx := (some (E.2.2.2 11))) (ry := (some (E.2.2.2 11))) 41 dJ4_equals_27 (by decide) (fun c_27 => absurd rfl c_27) (fun _ => ?_)
  refine V_aload_n dJ4_equals_30 rfl ?_
  refine V_aload_n dJ4_equals_31 rfl ?_
  refine V_castE dJ4_equals_32 q1660 rfl (clsE.c hc) ?_
  refine V_invVc (M' := mJ4_equalsArrayList) (As := [.ref c]) (rest := []) okJ4_equalsArrayList dJ4_equals_35 q1661 rfl rfl (clsE.c ha) rfl rfl (Nat.le_of_ble_eq_true rfl) (d' := 3) (b1 := 0) (by first | decide | omega) (by first | decide | omega) (c_J4_equalsArrayList ha hc nac hz hw (fun c_35 => ?_) (fun c_35 => ?_))
  · refine V_goto 54 dJ4_equals_38 (by decide) ?_
    exact main _ (by decide) (by first | exact Kt c_35 | exact Kf c_35)
  · refine V_goto 54 dJ4_equals_38 (by decide) ?_
    exact main _ (by decide) (by first | exact Kt c_35 | exact Kf c_35)
end AL7
