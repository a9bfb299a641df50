/-! ARRAYLIST, V: clear -/
section AL5
variable {E : Ev} {M : Mt} {d b pc : Nat} {ls : List (Option Value)} {st : List Value} {h : AH} {Q : Value → AH → Prop} {X : Nat → AH → Prop} {a e ci c x : Nat} {mc mc2 : Int} {l l2 : List Nat} {hh : AH}
theorem c_J4_clear (ha : h a = some (cAL E a mc l)) (K : Q .null (hset h a (cAL E a (mc + 1) []))) : V E mJ4_clear 0 0 0 [some (.ref a), none, none, none] [] h Q X := by
  refine V_open ha (fun hh P D => ?_)
  obtain ⟨ea, e1, e2⟩ := id P
  have hlen := alP.len e2
  rcases id e2 with ⟨rfl, rfl⟩ | ⟨n, g, e3, n1, n2, n3, hg⟩
  · refine V_aload_n dJ4_clear_0 rfl ?_
    refine V_dup dJ4_clear_1 rfl ?_
    refine V_getfS okJ4 0 dJ4_clear_2 q270 q269 (by decide) (ovl_in e1) rfl ?_
    refine V_iconst dJ4_clear_5 ?_
    refine V_iadd dJ4_clear_6 ?_
    refine V_putSE (fs' := [vI (mc + 1), .ref (E.2.2.2 1), vI 0]) okJ4 0 dJ4_clear_7 q270 q269 (by decide) rfl (ovl_in e1) (by decide) (Nat.le_of_ble_eq_true rfl) rfl rfl rfl rfl ?_
    refine V_aload_n dJ4_clear_10 rfl ?_
    refine V_getf okJ4 1 dJ4_clear_11 q263 (by decide) hset_eq rfl ?_
    refine V_astore_n dJ4_clear_14 (by decide) ?_
    refine V_aload_n dJ4_clear_15 rfl ?_
    refine V_getf okJ4 2 dJ4_clear_16 q266 (by decide) hset_eq rfl ?_
    refine V_istore_n dJ4_clear_19 (by decide) ?_
    refine V_aload_n dJ4_clear_20 rfl ?_
    refine V_iconst dJ4_clear_21 ?_
    refine V_dup_x1 dJ4_clear_22 rfl rfl ?_
    refine V_putfE (fs' := [vI (mc + 1), .ref (E.2.2.2 1), vI 0]) okJ4 2 dJ4_clear_23 q266 (by decide) rfl hset_eq (by decide) (Nat.le_of_ble_eq_true rfl) rfl rfl rfl hset_hset ?_
    refine V_istore_n dJ4_clear_26 (by decide) ?_
    refine V_iload_n dJ4_clear_27 rfl ?_
    refine V_iload_n dJ4_clear_28 rfl ?_
    refine V_icmp_ge 42 dJ4_clear_29 (by decide) (by first | omega | decide) (by first | omega | decide) (fun c_29 => ?_) (fun c_29 => by exfalso; omega)
    simp only [ovl_set]
    refine alP.all (mc := mc + 1) (l := []) (dj.set D (Or.inl (by rw [e1]; simp))) ⟨_, hset_eq, Or.inl ⟨rfl, rfl⟩⟩ ?_
    exact V_vret dJ4_clear_42 rfl K
  · have eaa : ea ≠ a := ne_t (ovl_in (h := h) (a := a) e3) (ovl_in (h := h) (a := a) e1) rfl
    have e1' : hset (ovl h a hh) a (oO 26 [vI (mc + 1), .ref ea, vI 0]) a = some (oO 26 [vI (mc + 1), .ref ea, vI 0]) := hset_eq
    have main : ∀ i : Int, 0 ≤ i → i ≤ l.length → ∀ g : Int → Option Nat, (∀ j : Nat, j < n → g j = if (j : Int) < i then none else l[j]?) → V E mJ4_clear 0 0 27 [some (.ref a), some (.ref ea), some (vI l.length), some (vI i)] [] (hset (hset (ovl h a hh) a (oO 26 [vI (mc + 1), .ref ea, vI 0])) ea (oR 3 n g)) Q X := by
      intro i i0 i1
      refine loop_upI (P := fun i => ∀ g : Int → Option Nat, (∀ j : Nat, j < n → g j = if (j : Int) < i then none else l[j]?) → V E mJ4_clear 0 0 27 [some (.ref a), some (.ref ea), some (vI l.length), some (vI i)] [] (hset (hset (ovl h a hh) a (oO 26 [vI (mc + 1), .ref ea, vI 0])) ea (oR 3 n g)) Q X) i l.length ?_ i1
      intro i j0 j1 ih g hg
      refine V_iload_n dJ4_clear_27 rfl ?_
      refine V_iload_n dJ4_clear_28 rfl ?_
      refine V_icmp_ge 42 dJ4_clear_29 (by decide) (by constructor <;> omega) (by constructor <;> omega) (fun c_29 => ?_) (fun c_29 => ?_)
      · simp only [ovl_set]
        refine alP.all (mc := mc + 1) (l := []) (dj.set (dj.set D (Or.inl (by rw [e1]; simp))) (Or.inl (by rw [hset_ne eaa, e3]; simp))) ⟨ea, (hset_ne eaa.symm).trans hset_eq, Or.inr ⟨n, g, hset_eq, Nat.zero_le _, n2, n3, fun j hj => by rw [hg j hj]; split; rfl; (rw [getq (by omega)]; rfl)⟩⟩ ?_
        exact V_vret dJ4_clear_42 rfl K
      · refine V_aload_n dJ4_clear_32 rfl ?_
        refine V_iload_n dJ4_clear_33 rfl ?_
        refine V_null dJ4_clear_34 ?_
        refine V_aastNE dJ4_clear_35 hset_eq rfl (by decide) (by omega) (by omega) (by first | decide | omega) rfl ?_
        refine V_iinc dJ4_clear_36 rfl (by decide) ?_
        refine V_goto 27 dJ4_clear_39 (by decide) ?_
        rw [hset_hset]
        exact ih (by omega) (aup g i none) (fun j hj => by have := hg j hj; show aup g i none j = _; unfold aup; split; (rw [if_pos (by omega)]); (rw [this]; split; (rw [if_pos (by omega)]); (rw [if_neg (by omega)])))
    refine V_aload_n dJ4_clear_0 rfl ?_
    refine V_dup dJ4_clear_1 rfl ?_
    refine V_getfS okJ4 0 dJ4_clear_2 q270 q269 (by decide) (ovl_in e1) rfl ?_
    refine V_iconst dJ4_clear_5 ?_
    refine V_iadd dJ4_clear_6 ?_
    refine V_putSE (fs' := [vI (mc + 1), .ref ea, vI l.length]) okJ4 0 dJ4_clear_7 q270 q269 (by decide) rfl (ovl_in e1) (by decide) (Nat.le_of_ble_eq_true rfl) rfl rfl rfl rfl ?_
    refine V_aload_n dJ4_clear_10 rfl ?_
    refine V_getf okJ4 1 dJ4_clear_11 q263 (by decide) hset_eq rfl ?_
    refine V_astore_n dJ4_clear_14 (by decide) ?_
    refine V_aload_n dJ4_clear_15 rfl ?_
    refine V_getf okJ4 2 dJ4_clear_16 q266 (by decide) hset_eq rfl ?_
    refine V_istore_n dJ4_clear_19 (by decide) ?_
    refine V_aload_n dJ4_clear_20 rfl ?_
    refine V_iconst dJ4_clear_21 ?_
    refine V_dup_x1 dJ4_clear_22 rfl rfl ?_
    refine V_putfE (fs' := [vI (mc + 1), .ref ea, vI 0]) okJ4 2 dJ4_clear_23 q266 (by decide) rfl hset_eq (by decide) (Nat.le_of_ble_eq_true rfl) rfl rfl rfl hset_hset ?_
    refine V_istore_n dJ4_clear_26 (by decide) ?_
    rw [show hset (ovl h a hh) a (oO 26 [vI (mc + 1), .ref ea, vI 0]) = hset (hset (ovl h a hh) a (oO 26 [vI (mc + 1), .ref ea, vI 0])) ea (oR 3 n g) from (hset_same ((hset_ne eaa).trans (ovl_in e3))).symm]
    exact main 0 (by omega) (by omega) g (fun j hj => by rw [hg j hj, if_neg (by omega)])
end AL5
