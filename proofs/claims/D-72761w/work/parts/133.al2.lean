/-! ARRAYLIST, II -/
theorem getq {l : List Nat} {i : Nat} (h : l.length ≤ i) : l[i]? = none := List.getElem?_eq_none h
theorem alA_app {l : List Nat} {e n : Nat} {g : Int → Option Nat} (hg : ∀ i : Nat, i < n → g i = l[i]?) (hl : l.length < n) : ∀ i : Nat, i < n → aup g l.length (some e) i = (l ++ [e])[i]? := by
  intro i hi
  unfold aup
  by_cases c : i = l.length
  · subst c
    rw [if_pos rfl]
    simp
  · rw [if_neg (by omega), hg i hi]
    by_cases c2 : i < l.length
    · rw [List.getElem?_append_left c2]
    · rw [getq (by omega), getq (by simp; omega)]
section AL2
variable {E : Ev} {M : Mt} {d pc : Nat} {ls : List (Option Value)} {st : List Value} {h : AH} {Q : Value → AH → Prop} {X : Nat → AH → Prop} {a b e ci it : Nat} {mc : Int} {l : List Nat} {hh : AH}
theorem alP.len {E : Ev} {ea : Nat} {l : List Nat} {hh : AH} (h : alA E ea l hh) : l.length ≤ 1000 := by
  rcases h with ⟨rfl, -⟩ | ⟨n, g, -, h1, -, h2, -⟩
  · exact Nat.zero_le _
  · omega
theorem c_J4_elementData {i : Int} {x ea n : Nat} {g : Int → Option Nat} (h0 : h a = some (oO 26 [vI mc, .ref ea, vI l.length])) (h1 : h ea = some (oR 3 n g)) (hn : n ≤ 1000) (hi : 0 ≤ i ∧ i < n) (hx : g i = some x) (K : Q (.ref x) h) : V E mJ4_elementData 0 0 0 [some (.ref a), some (vI i)] [] h Q X := by
  refine V_aload_n dJ4_elementData_0 rfl ?_
  refine V_getf okJ4 1 dJ4_elementData_1 q263 (by decide) h0 rfl ?_
  refine V_iload_n dJ4_elementData_4 rfl ?_
  refine V_aald dJ4_elementData_5 h1 rfl (by omega) (by omega) (by first | decide | omega) ?_
  refine V_top9 (.ref x) (by rw [hx]; rfl) ?_
  exact V_aret dJ4_elementData_6 rfl rfl (Or.inr ⟨_, rfl⟩) (by exact K)
theorem c_J4_get {i : Int} {x : Nat} (ha : h a = some (cAL E a mc l)) (hi : 0 ≤ i) (hx : l[i.toNat]? = some x) (K : Q (.ref x) h) : V E mJ4_get 3 0 0 [some (.ref a), some (vI i)] [] h Q X := by
  refine V_open ha (fun hh P D => ?_)
  obtain ⟨ea, e1, e2⟩ := P
  have hlen := alP.len e2
  have hil : i.toNat < l.length := (List.getElem?_eq_some_iff.mp hx).1
  rcases id e2 with ⟨rfl, -⟩ | ⟨n, g, e3, n1, n2, n3, hg⟩
  · cases hil
  · refine V_iload_n dJ4_get_0 rfl ?_
    refine V_aload_n dJ4_get_1 rfl ?_
    refine V_getf okJ4 2 dJ4_get_2 q266 (by decide) (ovl_in e1) rfl ?_
    refine V_invS (M' := mJ17_checkIndex) (As := [vI i, vI l.length]) (rest := []) okJ17_checkIndex dJ4_get_5 q1736 rfl rfl rfl (Nat.le_of_ble_eq_true rfl) (d' := 2) (b1 := 0) (by first | decide | omega) (by first | decide | omega) (c_J17_checkIndex (n := l.length) (by omega) (by constructor <;> omega) ?_)
    refine V_pop dJ4_get_8 rfl ?_
    refine V_aload_n dJ4_get_9 rfl ?_
    refine V_iload_n dJ4_get_10 rfl ?_
    refine V_invVc (M' := mJ4_elementData) (As := [vI i]) (rest := []) okJ4_elementData dJ4_get_11 q1742 rfl rfl (clsE.o (ovl_in e1)) rfl rfl (Nat.le_of_ble_eq_true rfl) (d' := 0) (b1 := 0) (by first | decide | omega) (by first | decide | omega) (c_J4_elementData (x := x) (ovl_in e1) (ovl_in e3) n3 (by omega) (by have := hg i.toNat (by omega); rw [show ((i.toNat : Nat) : Int) = i by omega] at this; rw [this]; exact hx) ?_)
    refine V_shut ha ⟨ea, e1, e2⟩ e1 D ?_
    exact V_aret dJ4_get_14 rfl rfl (Or.inr ⟨_, rfl⟩) (by exact K)
theorem c_J4_add_2 {ea : Nat} (ha : h a = some (cAL E a (mc - 1) l)) (e1 : hh a = some (oO 26 [vI mc, .ref ea, vI l.length])) (e2 : alA E ea l hh) (D : dj h a hh) (he : clsE E h e ci) (hc : elC ci) (hel : ∀ x ∈ l, clsE E h x ci) (hlen : l.length < 600) (hb : 2 * l.length + 12 ≤ b) (K : ∀ hh', alP E a mc (l ++ [e]) hh' → dj h a hh' → Q .null (ovl h a hh')) : V E mJ4_add_2 6 b 0 [some (.ref a), some (.ref e), some (.ref ea), some (vI l.length)] [] (ovl h a hh) Q X := by
  obtain ⟨hc0, CV, TV, NV, hc2, hc3⟩ := id hc
  have ce : clsE E (ovl h a hh) e ci := he.inn D ha hc.n
  rcases id e2 with ⟨rfl, rfl⟩ | ⟨n, g, e3, n1, n2, n3, hg⟩
  · refine V_iload_n dJ4_add_2_0 rfl ?_
    refine V_aload_n dJ4_add_2_1 rfl ?_
    refine V_alenK dJ4_add_2_2 cst.e1 rfl ?_
    refine V_icmp_ne 11 dJ4_add_2_3 (by decide) (by first | omega | decide) (by first | omega | decide) (fun c_3 => absurd c_3 (by decide)) (fun c_3 => ?_)
    refine V_aload_n dJ4_add_2_6 rfl ?_
    refine V_invVc (M' := mJ4_grow) (As := []) (rest := []) okJ4_grow dJ4_add_2_7 q1405 rfl rfl (clsE.o (ovl_in e1)) rfl rfl (Nat.le_of_ble_eq_true rfl) (d' := 5) (b1 := 11) (by first | decide | omega) (by first | decide | omega) (c_J4_growa (ovl_in e1) (by omega) (fun x hx => ?_))
    refine V_astore_n dJ4_add_2_10 (by decide) ?_
    refine V_aload_n dJ4_add_2_11 rfl ?_
    refine V_iload_n dJ4_add_2_12 rfl ?_
    refine V_aload_n dJ4_add_2_13 rfl ?_
    refine V_aastE dJ4_add_2_14 ((hset_ne (Ne.symm (ne_f (ovl_in e1) hx))).trans hset_eq) rfl (by decide) ((ce.new hx).put (c := oO 26 [vI mc, .ref x, vI 0]) ((hset_ne (ne_f (ovl_in e1) hx)).trans (ovl_in e1)) hc.n) hc2 (Or.inr hc3) (by omega) (by omega) (by first | decide | omega) (hset_in (Ne.symm (ne_f (ovl_in e1) hx)) hset_hset) ?_
    refine V_aload_n dJ4_add_2_15 rfl ?_
    refine V_iload_n dJ4_add_2_16 rfl ?_
    refine V_iconst dJ4_add_2_17 ?_
    refine V_iadd dJ4_add_2_18 ?_
    refine V_putfE (fs' := [vI mc, .ref x, vI (0 + 1)]) okJ4 2 dJ4_add_2_19 q266 (by decide) rfl hset_eq (by decide) (Nat.le_of_ble_eq_true rfl) rfl rfl rfl hset_hset ?_
    simp only [ovl_set]
    have hx0 := ovl_none hx e1
    exact V_vret dJ4_add_2_22 rfl (by exact K _ ⟨x, hset_eq, Or.inr ⟨10, _, ((hset_ne hx0.2.2).trans hset_eq), (Nat.le_of_ble_eq_true rfl), by decide, by decide, alA_app (l := []) (fun i hi => rfl) (by decide)⟩⟩ (((D.set (Or.inr hx0.2.1)).set (Or.inl (by rw [hset_ne (Ne.symm hx0.2.2), e1]; simp)))))
  · have eaa : ea ≠ a := ne_t (ovl_in (h := h) (a := a) e3) (ovl_in (h := h) (a := a) e1) rfl
    by_cases hl : l.length = n
    · refine V_iload_n dJ4_add_2_0 rfl ?_
      refine V_aload_n dJ4_add_2_1 rfl ?_
      refine V_alenR dJ4_add_2_2 (ovl_in e3) rfl ?_
      refine V_icmp_ne 11 dJ4_add_2_3 (by decide) (by constructor <;> omega) (by constructor <;> omega) (fun c_3 => by exfalso; omega) (fun c_3 => ?_)
      subst hl
      refine V_aload_n dJ4_add_2_6 rfl ?_
      refine V_invVc (M' := mJ4_grow) (As := []) (rest := []) okJ4_grow dJ4_add_2_7 q1405 rfl rfl (clsE.o (ovl_in e1)) rfl rfl (Nat.le_of_ble_eq_true rfl) (d' := 5) (b1 := 2 * l.length + 4) (by first | decide | omega) (by first | decide | omega) (c_J4_growb (ovl_in e1) (ovl_in e3) (by omega) hc (fun i i0 i1 y hy => by have := hg i.toNat (by omega); rw [show ((i.toNat : Nat) : Int) = i by omega] at this; rw [this] at hy; exact (hel y (List.mem_of_getElem? hy)).inn D ha hc.n) (by omega) (fun x n' hx n4 n5 => ?_))
      refine V_astore_n dJ4_add_2_10 (by decide) ?_
      refine V_aload_n dJ4_add_2_11 rfl ?_
      refine V_iload_n dJ4_add_2_12 rfl ?_
      refine V_aload_n dJ4_add_2_13 rfl ?_
      refine V_aastE dJ4_add_2_14 ((hset_ne (Ne.symm (ne_f (ovl_in e1) hx))).trans hset_eq) rfl (by decide) ((ce.new hx).put (c := oO 26 [vI mc, .ref x, vI l.length]) ((hset_ne (ne_f (ovl_in e1) hx)).trans (ovl_in e1)) hc.n) hc2 (Or.inr hc3) (by omega) (by omega) (by first | decide | omega) (hset_in (Ne.symm (ne_f (ovl_in e1) hx)) hset_hset) ?_
      refine V_aload_n dJ4_add_2_15 rfl ?_
      refine V_iload_n dJ4_add_2_16 rfl ?_
      refine V_iconst dJ4_add_2_17 ?_
      refine V_iadd dJ4_add_2_18 ?_
      refine V_putfE (fs' := [vI mc, .ref x, vI (l.length + 1)]) okJ4 2 dJ4_add_2_19 q266 (by decide) rfl hset_eq (by decide) (Nat.le_of_ble_eq_true rfl) rfl rfl rfl hset_hset ?_
      simp only [ovl_set]
      have hx0 := ovl_none hx e1
      exact V_vret dJ4_add_2_22 rfl (by exact K _ ⟨x, by rw [hset_eq]; simp, Or.inr ⟨n', _, ((hset_ne hx0.2.2).trans hset_eq), by simp; omega, by omega, n5, alA_app (l := l) (fun i hi => by unfold oCpy; split; (rw [show (0:Int) + ((i : Int) - 0) = i by omega]; exact hg i (by omega)); rw [getq (by omega)]) n4⟩⟩ (((D.set (Or.inr hx0.2.1)).set (Or.inl (by rw [hset_ne (Ne.symm hx0.2.2), e1]; simp)))))
    · refine V_iload_n dJ4_add_2_0 rfl ?_
      refine V_aload_n dJ4_add_2_1 rfl ?_
      refine V_alenR dJ4_add_2_2 (ovl_in e3) rfl ?_
      refine V_icmp_ne 11 dJ4_add_2_3 (by decide) (by constructor <;> omega) (by constructor <;> omega) (fun c_3 => ?_) (fun c_3 => by exfalso; omega)
      refine V_aload_n dJ4_add_2_11 rfl ?_
      refine V_iload_n dJ4_add_2_12 rfl ?_
      refine V_aload_n dJ4_add_2_13 rfl ?_
      refine V_aastE dJ4_add_2_14 (ovl_in e3) rfl (by decide) ce hc2 (Or.inr hc3) (by omega) (by omega) (by first | decide | omega) rfl ?_
      refine V_aload_n dJ4_add_2_15 rfl ?_
      refine V_iload_n dJ4_add_2_16 rfl ?_
      refine V_iconst dJ4_add_2_17 ?_
      refine V_iadd dJ4_add_2_18 ?_
      refine V_putfE (fs' := [vI mc, .ref ea, vI (l.length + 1)]) okJ4 2 dJ4_add_2_19 q266 (by decide) rfl ((hset_ne (Ne.symm eaa)).trans (ovl_in e1)) (by decide) (Nat.le_of_ble_eq_true rfl) rfl rfl rfl rfl ?_
      simp only [ovl_set]
      exact V_vret dJ4_add_2_22 rfl (by exact K _ ⟨ea, by rw [hset_eq]; simp, Or.inr ⟨n, _, ((hset_ne eaa).trans hset_eq), by simp; omega, by omega, n3, alA_app hg (by omega)⟩⟩ ((D.set (Or.inl (by rw [e3]; simp))).set (Or.inl (by rw [hset_ne (Ne.symm eaa), e1]; simp))))
theorem c_J4_add (ha : h a = some (cAL E a mc l)) (he : clsE E h e ci) (hc : elC ci) (hel : ∀ x ∈ l, clsE E h x ci) (hlen : l.length < 600) (hb : 2 * l.length + 12 ≤ b) (K : Q (vI 1) (hset h a (cAL E a (mc + 1) (l ++ [e])))) : V E mJ4_add 7 b 0 [some (.ref a), some (.ref e)] [] h Q X := by
  refine V_open ha (fun hh P D => ?_)
  obtain ⟨ea, e1, e2⟩ := P
  have e2' : alA E ea l (hset hh a (oO 26 [vI (mc + 1), .ref ea, vI l.length])) := by
    rcases e2 with e2 | ⟨n, g, e3, r⟩
    · exact Or.inl e2
    · exact Or.inr ⟨n, g, (hset_ne (ne_t (ovl_in (h := h) (a := a) e3) (ovl_in (h := h) (a := a) e1) rfl)).trans e3, r⟩
  have ha' : h a = some (cAL E a (mc + 1 - 1) l) := by rw [show mc + 1 - 1 = mc by omega]; exact ha
  refine V_aload_n dJ4_add_0 rfl ?_
  refine V_dup dJ4_add_1 rfl ?_
  refine V_getfS okJ4 0 dJ4_add_2 q270 q269 (by decide) (ovl_in e1) rfl ?_
  refine V_iconst dJ4_add_5 ?_
  refine V_iadd dJ4_add_6 ?_
  refine V_putSE (fs' := [vI (mc + 1), .ref ea, vI l.length]) okJ4 0 dJ4_add_7 q270 q269 (by decide) rfl (ovl_in e1) (by decide) (Nat.le_of_ble_eq_true rfl) rfl rfl rfl rfl ?_
  refine V_aload_n dJ4_add_10 rfl ?_
  refine V_aload_n dJ4_add_11 rfl ?_
  refine V_aload_n dJ4_add_12 rfl ?_
  refine V_getf okJ4 1 dJ4_add_13 q263 (by decide) hset_eq rfl ?_
  refine V_aload_n dJ4_add_16 rfl ?_
  refine V_getf okJ4 2 dJ4_add_17 q266 (by decide) hset_eq rfl ?_
  rw [ovl_set]
  refine V_invVc (M' := mJ4_add_2) (As := [.ref e, .ref ea, vI l.length]) (rest := []) okJ4_add_2 dJ4_add_20 q1401 rfl rfl (clsE.o (ovl_in hset_eq)) rfl rfl (Nat.le_of_ble_eq_true rfl) (d' := 6) (b1 := b) (by first | decide | omega) (by first | decide | omega) (c_J4_add_2 ha' hset_eq e2' (dj.set D (Or.inl (by rw [e1]; simp))) he hc hel hlen (by omega) (fun hh' P' D' => ?_))
  obtain ⟨ea', e1', e2''⟩ := id P'
  refine V_close (alP E a (mc + 1) (l ++ [e])) P' e1' D' ?_
  exact V_iconst dJ4_add_23 (V_zret dJ4_add_24 rfl (by decide) K)
end AL2
