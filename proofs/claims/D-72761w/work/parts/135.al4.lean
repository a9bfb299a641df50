/-! ARRAYLIST, IV: toArray, addAll, clear -/
theorem alA_cat {l l2 : List Nat} {n : Nat} {g gx : Int → Option Nat} (hg : ∀ i : Nat, i < n → g i = l[i]?) (hx : ∀ i : Nat, i < l2.length → gx i = l2[i]?) (hl : l.length + l2.length ≤ n) : ∀ i : Nat, i < n → oCpy gx g 0 l.length l2.length i = (l ++ l2)[i]? := by
  intro i hi
  unfold oCpy
  by_cases c : i < l.length
  · rw [if_neg (by omega), hg i hi, List.getElem?_append_left c]
  · by_cases c2 : i < l.length + l2.length
    · rw [if_pos (by omega), show (0 : Int) + (i - l.length) = ((i - l.length : Nat) : Int) by omega, hx _ (by omega), List.getElem?_append_right (by omega)]
    · rw [if_neg (by omega), hg i hi, getq (by omega), getq (by simp; omega)]
theorem hset_none {h : AH} {a y : Nat} {c : Ao} (e : hset h a c y = none) : h y = none := by
  unfold hset at e
  split at e
  · cases e
  · exact e
theorem le_set {h h0 : AH} {a : Nat} {c : Ao} (hd : ∀ q c, h0 q = some c → h q = some c) : ∀ q d, hset h0 a c q = some d → hset h a c q = some d := by
  intro q d e
  unfold hset at e ⊢
  split
  · rename_i e1; rw [if_pos e1] at e; exact e
  · rename_i e1; rw [if_neg e1] at e; exact hd q d e
section AL4
variable {E : Ev} {M : Mt} {d b pc : Nat} {ls : List (Option Value)} {st : List Value} {h : AH} {Q : Value → AH → Prop} {X : Nat → AH → Prop} {a e ci c x : Nat} {mc mc2 : Int} {l l2 : List Nat} {hh : AH}
theorem alP.all {h' : AH} (D : dj h' a hh) (P : alP E a mc l hh) (k : V E M d b pc ls st (hset h' a (cAL E a mc l)) Q X) : V E M d b pc ls st (ovl h' a hh) Q X := by
  obtain ⟨ea, e1, e2⟩ := id P
  exact V_close (alP E a mc l) P e1 D k
theorem c_J4_toArray (ha : h a = some (cAL E a mc l)) (hc : elC ci) (hel : ∀ x ∈ l, clsE E h x ci) (hb : l.length + 1 ≤ b) (K : ∀ (x : Nat) (g : Int → Option Nat), h x = none → (∀ i : Nat, i < l.length → g i = l[i]?) → Q (.ref x) (hset h x (oR 3 l.length g))) : V E mJ4_toArray 4 b 0 [some (.ref a)] [] h Q X := by
  refine V_open ha (fun hh P D => ?_)
  obtain ⟨ea, e1, e2⟩ := id P
  rcases id e2 with ⟨rfl, rfl⟩ | ⟨n, g, e3, n1, n2, n3, hg⟩
  · refine V_aload_n dJ4_toArray_0 rfl ?_
    refine V_getf okJ4 1 dJ4_toArray_1 q263 (by decide) (ovl_in e1) rfl ?_
    refine V_aload_n dJ4_toArray_4 rfl ?_
    refine V_getf okJ4 2 dJ4_toArray_5 q266 (by decide) (ovl_in e1) rfl ?_
    refine V_invS (M' := mJ29_copyOf) (As := [.ref (E.2.2.2 1), vI 0]) (rest := []) okJ29_copyOf dJ4_toArray_8 q1421 rfl rfl rfl (Nat.le_of_ble_eq_true rfl) (d' := 3) (b1 := b) (by first | decide | omega) (by first | decide | omega) (c_J29_copyOfK (by omega) (fun x hx => ?_))
    have hx0 := ovl_none hx e1
    rw [ovl_push hx0.1 hx0.2.2]
    refine V_shut ((hset_ne hx0.2.2.symm).trans ha) P e1 (dj.push D hx0.1) ?_
    exact V_aret dJ4_toArray_11 rfl rfl (Or.inr ⟨_, rfl⟩) (by exact K x _ hx0.2.1 (fun i hi => absurd hi (Nat.not_lt_zero _)))
  · refine V_aload_n dJ4_toArray_0 rfl ?_
    refine V_getf okJ4 1 dJ4_toArray_1 q263 (by decide) (ovl_in e1) rfl ?_
    refine V_aload_n dJ4_toArray_4 rfl ?_
    refine V_getf okJ4 2 dJ4_toArray_5 q266 (by decide) (ovl_in e1) rfl ?_
    refine V_invS (M' := mJ29_copyOf) (As := [.ref ea, vI l.length]) (rest := []) okJ29_copyOf dJ4_toArray_8 q1421 rfl rfl rfl (Nat.le_of_ble_eq_true rfl) (d' := 3) (b1 := b) (by first | decide | omega) (by first | decide | omega) (c_J29_copyOf (ovl_in e3) n3 (by omega) hc (fun i i0 i1 i2 y hy => by have := hg i.toNat (by omega); rw [show ((i.toNat : Nat) : Int) = i by omega] at this; rw [this] at hy; exact (hel y (List.mem_of_getElem? hy)).inn D ha hc.n) (by omega) (fun x hx => ?_))
    have hx0 := ovl_none hx e1
    rw [ovl_push hx0.1 hx0.2.2]
    refine V_shut ((hset_ne hx0.2.2.symm).trans ha) P e1 (dj.push D hx0.1) ?_
    exact V_aret dJ4_toArray_11 rfl rfl (Or.inr ⟨_, rfl⟩) (by exact K x _ hx0.2.1 (fun i hi => by rw [show iMin n l.length = (l.length : Int) by unfold iMin; split <;> omega]; unfold oCpy; rw [if_pos (by omega), show (0:Int) + ((i : Int) - 0) = i by omega]; exact hg i (by omega)))
theorem c_J4_addAllT {ea n : Nat} {g gx : Int → Option Nat} {v1 : Option Value} (e1 : hh a = some (oO 26 [vI mc, .ref ea, vI l.length])) (e3 : hh ea = some (oR 3 n g)) (n1 : l.length + l2.length ≤ n) (n2 : 0 < n) (n3 : n ≤ 1000) (hg : ∀ i : Nat, i < n → g i = l[i]?) (hx : ovl h a hh x = some (oR 3 l2.length gx)) (hgx : ∀ i : Nat, i < l2.length → gx i = l2[i]?) (hc : elC ci) (hel : ∀ y ∈ l2, clsE E (ovl h a hh) y ci) (D : dj h a hh) {h0 : AH} (hd : ∀ q c, h0 q = some c → h q = some c) (K : Q (vI 1) (hset h0 a (cAL E a mc (l ++ l2)))) : V E mJ4_addAll 1 0 56 [some (.ref a), v1, some (.ref x), some (vI l2.length), some (.ref ea), some (vI l.length)] [] (ovl h a hh) Q X := by
  obtain ⟨hc1, CV, TV, NV, hc2, hc3⟩ := id hc
  have eaa : ea ≠ a := ne_t (ovl_in (h := h) (a := a) e3) (ovl_in (h := h) (a := a) e1) rfl
  refine V_aload_n dJ4_addAll_56 rfl ?_
  refine V_iconst dJ4_addAll_57 ?_
  refine V_aload dJ4_addAll_58 rfl ?_
  refine V_iload dJ4_addAll_60 rfl ?_
  refine V_iload_n dJ4_addAll_62 rfl ?_
  refine V_copyR (ci := ci) dJ4_addAll_63 q2062 q136 hx (ovl_in e3) hc2 hc3 (fun i i0 i1 y hy => by rw [Int.zero_add] at hy; have := hgx i.toNat (by omega); rw [show ((i.toNat : Nat) : Int) = i by omega] at this; rw [this] at hy; exact hel y (List.mem_of_getElem? hy)) (by omega) (by omega) (by omega) (by omega) (by omega) (by omega) (by omega) (Nat.le_of_ble_eq_true rfl) (by decide) ?_
  refine V_aload_n dJ4_addAll_66 rfl ?_
  refine V_iload dJ4_addAll_67 rfl ?_
  refine V_iload_n dJ4_addAll_69 rfl ?_
  refine V_iadd dJ4_addAll_70 ?_
  refine V_putfE (fs' := [vI mc, .ref ea, vI (l.length + l2.length)]) okJ4 2 dJ4_addAll_71 q266 (by decide) rfl ((hset_ne (Ne.symm eaa)).trans (ovl_in e1)) (by decide) (Nat.le_of_ble_eq_true rfl) rfl rfl rfl rfl ?_
  rw [ovl_set, ovl_set]
  refine alP.all (mc := mc) (l := l ++ l2) (dj.set (dj.set D (Or.inl (by rw [e3]; simp))) (Or.inl (by rw [hset_ne eaa.symm, e1]; simp))) ⟨ea, by rw [hset_eq]; simp, Or.inr ⟨n, _, (hset_ne eaa).trans hset_eq, by simp; omega, n2, n3, alA_cat hg hgx n1⟩⟩ ?_
  refine V_drop (le_set hd) ?_
  exact V_iconst dJ4_addAll_74 (V_zret dJ4_addAll_75 rfl (by decide) K)
theorem c_J4_addAllM {v1 : Value} {gx : Int → Option Nat} (ha : h a = some (cAL E a mc l)) (hx : h x = some (oR 3 l2.length gx)) (hgx : ∀ i : Nat, i < l2.length → gx i = l2[i]?) (hc : elC ci) (hel : ∀ x ∈ l, clsE E h x ci) (hel2 : ∀ x ∈ l2, clsE E h x ci) (hlen : l.length + l2.length ≤ 300) (hb : 2 * (l.length + l2.length) + 38 ≤ b) {h0 : AH} (hd : ∀ q c, h0 q = some c → h q = some c) (K1 : Q (vI 1) (hset h0 a (cAL E a (mc + 1) (l ++ l2)))) (K0 : l2 = [] → Q (vI 0) (hset h0 a (cAL E a (mc + 1) l))) : V E mJ4_addAll 6 b 6 [some (.ref a), some v1, none, none, none, none] [.ref x] h Q X := by
  refine V_open ha (fun hh P D => ?_)
  obtain ⟨ea, e1, e2⟩ := id P
  have hxa : x ≠ a := ne_t hx ha rfl
  have hx' := ovl_old D hxa hx
  have e2' : alA E ea l (hset hh a (oO 26 [vI (mc + 1), .ref ea, vI l.length])) := by
    rcases e2 with e2 | ⟨n, g, e3, r⟩
    · exact Or.inl e2
    · exact Or.inr ⟨n, g, (hset_ne (ne_t (ovl_in (h := h) (a := a) e3) (ovl_in (h := h) (a := a) e1) rfl)).trans e3, r⟩
  have D' : dj h a (hset hh a (oO 26 [vI (mc + 1), .ref ea, vI l.length])) := dj.set D (Or.inl (by rw [e1]; simp))
  have e0 : ∀ c, ovl h a (hset (hset hh a c) a (oO 26 [vI (mc + 1), .ref ea, vI l.length])) = ovl h a (hset hh a (oO 26 [vI (mc + 1), .ref ea, vI l.length])) := by
    intro c; rw [hset_hset]
  rcases id e2 with ⟨rfl, rfl⟩ | ⟨n, g, e3, n1, n2, n3, hg⟩
  · refine V_astore_n dJ4_addAll_6 (by decide) ?_
    refine V_aload_n dJ4_addAll_7 rfl ?_
    refine V_dup dJ4_addAll_8 rfl ?_
    refine V_getfS okJ4 0 dJ4_addAll_9 q270 q269 (by decide) (ovl_in e1) rfl ?_
    refine V_iconst dJ4_addAll_12 ?_
    refine V_iadd dJ4_addAll_13 ?_
    refine V_putSE (fs' := [vI (mc + 1), .ref (E.2.2.2 1), vI 0]) okJ4 0 dJ4_addAll_14 q270 q269 (by decide) rfl (ovl_in e1) (by decide) (Nat.le_of_ble_eq_true rfl) rfl rfl rfl rfl ?_
    refine V_aload_n dJ4_addAll_17 rfl ?_
    refine V_alenR dJ4_addAll_18 ((hset_ne (ne_t hx' (ovl_in e1) rfl)).trans hx') rfl ?_
    refine V_istore_n dJ4_addAll_19 (by decide) ?_
    refine V_iload_n dJ4_addAll_20 rfl ?_
    refine V_if_ne 26 dJ4_addAll_21 (by decide) (by first | decide | (constructor <;> omega)) (fun c_21 => ?_) (fun c_21 => ?_)
    · refine V_iload_n dJ4_addAll_26 rfl ?_
      refine V_aload_n dJ4_addAll_27 rfl ?_
      refine V_getf okJ4 1 dJ4_addAll_28 q263 (by decide) hset_eq rfl ?_
      refine V_dup dJ4_addAll_31 rfl ?_
      refine V_astore dJ4_addAll_32 (by decide) ?_
      refine V_alenK dJ4_addAll_34 cst.e1 rfl ?_
      refine V_aload_n dJ4_addAll_35 rfl ?_
      refine V_getf okJ4 2 dJ4_addAll_36 q266 (by decide) hset_eq rfl ?_
      refine V_dup dJ4_addAll_39 rfl ?_
      refine V_istore dJ4_addAll_40 (by decide) ?_
      refine V_isub dJ4_addAll_42 ?_
      refine V_icmp_le 56 dJ4_addAll_43 (by decide) (by first | decide | (constructor <;> omega)) (by first | decide | (constructor <;> omega)) (fun c_43 => by exfalso; omega) (fun c_43 => ?_)
      refine V_aload_n dJ4_addAll_46 rfl ?_
      refine V_iload dJ4_addAll_47 rfl ?_
      refine V_iload_n dJ4_addAll_49 rfl ?_
      refine V_iadd dJ4_addAll_50 ?_
      refine V_invVc (M' := mJ4_grow_2) (As := [vI (0 + (l2.length : Nat))]) (rest := []) okJ4_grow_2 dJ4_addAll_51 q1409 rfl rfl (clsE.o hset_eq) rfl rfl (Nat.le_of_ble_eq_true rfl) (d' := 4) (b1 := b) (by first | decide | omega) (by first | decide | omega) (c_J4_grow_2a (b := b) (m := 0 + l2.length) hset_eq (by omega) (by unfold iMax; split <;> omega) (fun y hy => ?_))
      refine V_heq (hset_in (ne_f hset_eq hy) hset_hset) ?_
      refine V_astore dJ4_addAll_54 (by decide) ?_
      have hy0 := ovl_none (hset_none hy) e1
      simp only [ovl_set]
      have hyx : x ≠ y := fun e => by have := hset_none hy; rw [← e, hx'] at this; cases this
      exact V.mono (d := 1) (b := 0) (by omega) (by omega) (c_J4_addAllT (l := []) (n := (iMax 10 (0 + l2.length)).toNat) (g := fun _ => none) ((hset_ne hy0.2.2.symm).trans hset_eq) hset_eq (by unfold iMax; split <;> (simp; try omega)) (by unfold iMax; split <;> omega) (by unfold iMax; split <;> omega) (fun i _ => rfl) (by rw [← ovl_set, ← ovl_set]; exact (hset_ne hyx).trans ((hset_ne hxa).trans hx')) hgx hc (fun z hz => by rw [← ovl_set, ← ovl_set]; exact (((hel2 z hz).inn D ha hc.n).put (ovl_in e1) hc.n).new ((hset_ne hy0.2.2).trans (hset_none hy))) (dj.set (dj.set D (Or.inl (by rw [e1]; simp))) (Or.inr hy0.2.1)) hd K1)
    · rw [ovl_set]
      refine alP.all (mc := mc + 1) (l := []) D' ⟨_, hset_eq, e2'⟩ ?_
      refine V_drop (le_set hd) ?_
      exact V_iconst dJ4_addAll_24 (V_zret dJ4_addAll_25 rfl (by decide) (K0 (List.eq_nil_of_length_eq_zero (by omega))))
  · have eaa : ea ≠ a := ne_t (ovl_in (h := h) (a := a) e3) (ovl_in (h := h) (a := a) e1) rfl
    have eax : ea ≠ x := fun e => by
      have := dj.inn D hx hxa
      rw [← e, e3] at this
      cases this
    by_cases hl : l.length + l2.length ≤ n
    · refine V_astore_n dJ4_addAll_6 (by decide) ?_
      refine V_aload_n dJ4_addAll_7 rfl ?_
      refine V_dup dJ4_addAll_8 rfl ?_
      refine V_getfS okJ4 0 dJ4_addAll_9 q270 q269 (by decide) (ovl_in e1) rfl ?_
      refine V_iconst dJ4_addAll_12 ?_
      refine V_iadd dJ4_addAll_13 ?_
      refine V_putSE (fs' := [vI (mc + 1), .ref ea, vI l.length]) okJ4 0 dJ4_addAll_14 q270 q269 (by decide) rfl (ovl_in e1) (by decide) (Nat.le_of_ble_eq_true rfl) rfl rfl rfl rfl ?_
      refine V_aload_n dJ4_addAll_17 rfl ?_
      refine V_alenR dJ4_addAll_18 ((hset_ne (ne_t hx' (ovl_in e1) rfl)).trans hx') rfl ?_
      refine V_istore_n dJ4_addAll_19 (by decide) ?_
      refine V_iload_n dJ4_addAll_20 rfl ?_
      refine V_if_ne 26 dJ4_addAll_21 (by decide) (by first | decide | (constructor <;> omega)) (fun c_21 => ?_) (fun c_21 => ?_)
      · refine V_iload_n dJ4_addAll_26 rfl ?_
        refine V_aload_n dJ4_addAll_27 rfl ?_
        refine V_getf okJ4 1 dJ4_addAll_28 q263 (by decide) hset_eq rfl ?_
        refine V_dup dJ4_addAll_31 rfl ?_
        refine V_astore dJ4_addAll_32 (by decide) ?_
        refine V_alenR dJ4_addAll_34 ((hset_ne eaa).trans (ovl_in e3)) rfl ?_
        refine V_aload_n dJ4_addAll_35 rfl ?_
        refine V_getf okJ4 2 dJ4_addAll_36 q266 (by decide) hset_eq rfl ?_
        refine V_dup dJ4_addAll_39 rfl ?_
        refine V_istore dJ4_addAll_40 (by decide) ?_
        refine V_isub dJ4_addAll_42 ?_
        refine V_icmp_le 56 dJ4_addAll_43 (by decide) (by first | decide | (constructor <;> omega)) (by first | decide | (constructor <;> omega)) (fun c_43 => ?_) (fun c_43 => by exfalso; omega)
        simp only [ovl_set]
        exact V.mono (by omega) (by omega) (c_J4_addAllT (n := n) (g := g) hset_eq ((hset_ne eaa).trans e3) hl n2 n3 hg (by rw [← ovl_set]; exact (hset_ne hxa).trans hx') hgx hc (fun y hy => by rw [← ovl_set]; exact (((hel2 y hy).inn D ha hc.n).put (ovl_in e1) hc.n)) D' hd K1)
      · rw [ovl_set]
        refine alP.all (mc := mc + 1) (l := l) D' ⟨_, hset_eq, e2'⟩ ?_
        refine V_drop (le_set hd) ?_
        exact V_iconst dJ4_addAll_24 (V_zret dJ4_addAll_25 rfl (by decide) (K0 (List.eq_nil_of_length_eq_zero (by omega))))
    · refine V_astore_n dJ4_addAll_6 (by decide) ?_
      refine V_aload_n dJ4_addAll_7 rfl ?_
      refine V_dup dJ4_addAll_8 rfl ?_
      refine V_getfS okJ4 0 dJ4_addAll_9 q270 q269 (by decide) (ovl_in e1) rfl ?_
      refine V_iconst dJ4_addAll_12 ?_
      refine V_iadd dJ4_addAll_13 ?_
      refine V_putSE (fs' := [vI (mc + 1), .ref ea, vI l.length]) okJ4 0 dJ4_addAll_14 q270 q269 (by decide) rfl (ovl_in e1) (by decide) (Nat.le_of_ble_eq_true rfl) rfl rfl rfl rfl ?_
      refine V_aload_n dJ4_addAll_17 rfl ?_
      refine V_alenR dJ4_addAll_18 ((hset_ne (ne_t hx' (ovl_in e1) rfl)).trans hx') rfl ?_
      refine V_istore_n dJ4_addAll_19 (by decide) ?_
      refine V_iload_n dJ4_addAll_20 rfl ?_
      refine V_if_ne 26 dJ4_addAll_21 (by decide) (by first | decide | (constructor <;> omega)) (fun c_21 => ?_) (fun c_21 => ?_)
      · refine V_iload_n dJ4_addAll_26 rfl ?_
        refine V_aload_n dJ4_addAll_27 rfl ?_
        refine V_getf okJ4 1 dJ4_addAll_28 q263 (by decide) hset_eq rfl ?_
        refine V_dup dJ4_addAll_31 rfl ?_
        refine V_astore dJ4_addAll_32 (by decide) ?_
        refine V_alenR dJ4_addAll_34 ((hset_ne eaa).trans (ovl_in e3)) rfl ?_
        refine V_aload_n dJ4_addAll_35 rfl ?_
        refine V_getf okJ4 2 dJ4_addAll_36 q266 (by decide) hset_eq rfl ?_
        refine V_dup dJ4_addAll_39 rfl ?_
        refine V_istore dJ4_addAll_40 (by decide) ?_
        refine V_isub dJ4_addAll_42 ?_
        refine V_icmp_le 56 dJ4_addAll_43 (by decide) (by first | decide | (constructor <;> omega)) (by first | decide | (constructor <;> omega)) (fun c_43 => by exfalso; omega) (fun c_43 => ?_)
        refine V_aload_n dJ4_addAll_46 rfl ?_
        refine V_iload dJ4_addAll_47 rfl ?_
        refine V_iload_n dJ4_addAll_49 rfl ?_
        refine V_iadd dJ4_addAll_50 ?_
        refine V_invVc (M' := mJ4_grow_2) (As := [vI (l.length + (l2.length : Nat))]) (rest := []) okJ4_grow_2 dJ4_addAll_51 q1409 rfl rfl (clsE.o hset_eq) rfl rfl (Nat.le_of_ble_eq_true rfl) (d' := 4) (b1 := b) (by first | decide | omega) (by first | decide | omega) (c_J4_grow_2b (b := b) (n := n) (m := l.length + l2.length) (ci := ci) hset_eq ((hset_ne eaa).trans (ovl_in e3)) (by omega) (by omega) hc (fun i i0 i1 z hz => by have := hg i.toNat (by omega); rw [show ((i.toNat : Nat) : Int) = i by omega] at this; rw [this] at hz; exact (((hel z (List.mem_of_getElem? hz)).inn D ha hc.n).put (ovl_in e1) hc.n)) (by omega) (fun y n' hy hn1 hn2 => ?_))
        refine V_heq (hset_in (ne_f hset_eq hy) hset_hset) ?_
        refine V_astore dJ4_addAll_54 (by decide) ?_
        have hy0 := ovl_none (hset_none hy) e1
        simp only [ovl_set]
        have hyx : x ≠ y := fun e => by have := hset_none hy; rw [← e, hx'] at this; cases this
        exact V.mono (d := 1) (b := 0) (by omega) (by omega) (c_J4_addAllT (l := l) (n := n') (g := oCpy g (fun _ => none) 0 0 n) ((hset_ne hy0.2.2.symm).trans hset_eq) hset_eq (by omega) (by omega) (by omega) (fun i hi => by unfold oCpy; split; (rw [show (0:Int) + ((i : Int) - 0) = i by omega]; exact hg i (by omega)); rw [getq (by omega)]) (by rw [← ovl_set, ← ovl_set]; exact (hset_ne hyx).trans ((hset_ne hxa).trans hx')) hgx hc (fun z hz => by rw [← ovl_set, ← ovl_set]; exact (((hel2 z hz).inn D ha hc.n).put (ovl_in e1) hc.n).new ((hset_ne hy0.2.2).trans (hset_none hy))) (dj.set (dj.set D (Or.inl (by rw [e1]; simp))) (Or.inr hy0.2.1)) hd K1)
      · rw [ovl_set]
        refine alP.all (mc := mc + 1) (l := l) D' ⟨_, hset_eq, e2'⟩ ?_
        refine V_drop (le_set hd) ?_
        exact V_iconst dJ4_addAll_24 (V_zret dJ4_addAll_25 rfl (by decide) (K0 (List.eq_nil_of_length_eq_zero (by omega))))
theorem c_J4_addAll (ha : h a = some (cAL E a mc l)) (hcc : h c = some (cAL E c mc2 l2)) (nac : a ≠ c) (hc : elC ci) (hel : ∀ x ∈ l, clsE E h x ci) (hel2 : ∀ x ∈ l2, clsE E h x ci) (hlen : l.length + l2.length ≤ 300) (hb : 4 * (l.length + l2.length) + 40 ≤ b) (K1 : Q (vI 1) (hset h a (cAL E a (mc + 1) (l ++ l2)))) (K0 : l2 = [] → Q (vI 0) (hset h a (cAL E a (mc + 1) l))) : V E mJ4_addAll 7 b 0 [some (.ref a), some (.ref c), none, none, none, none] [] h Q X := by
  refine V_aload_n dJ4_addAll_0 rfl ?_
  refine V_invF (M' := mJ4_toArray) (As := []) (rest := []) (C0 := "java/util/ArrayList") (x := ⟨"java/util/Collection", "toArray", "()[Ljava/lang/Object;"⟩) okmJ4_toArray (show OkX "java/util/Collection" ⟨"java/util/Collection", "toArray", "()[Ljava/lang/Object;"⟩ 0 from ⟨by decide +kernel, by decide +kernel, by decide +kernel⟩) dJ4_addAll_1 q2012 q2015 (List.mem_append_left _ q2014) (List.mem_append_left _ q2013) (List.mem_append_left _ q2018) (List.mem_append_left _ q2016) (List.mem_append_left _ q1804) rfl rfl (clsE.c hcc) rfl rfl (Nat.le_of_ble_eq_true rfl) (d' := 4) (b1 := l2.length + 1) (by first | decide | omega) (by first | decide | omega) (c_J4_toArray hcc hc hel2 (by omega) (fun x gx hx hgx => ?_))
  exact V.mono (by omega) (Nat.le_refl _) (c_J4_addAllM (b := b - (l2.length + 1)) (hset_old hx ha) hset_eq hgx hc (fun x hx' => (hel x hx').new hx) (fun x hx' => (hel2 x hx').new hx) hlen (by omega) (fun q c hq => hset_old hx hq) K1 K0)
end AL4
