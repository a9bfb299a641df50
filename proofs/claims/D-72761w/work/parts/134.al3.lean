/-! ARRAYLIST, III: its iterator -/
section AL3
variable {E : Ev} {M : Mt} {d b pc : Nat} {ls : List (Option Value)} {st : List Value} {h : AH} {Q : Value → AH → Prop} {X : Nat → AH → Prop} {a e ci it : Nat} {mc : Int} {l : List Nat} {hh : AH}
theorem c_J30_init (h1 : h it = some (oO 20 [vI 0, vI 0, vI 0, .null])) (ha : h a = some (cAL E a mc l)) (K : Q .null (hset h it (oO 20 [vI 0, vI (-1), vI mc, .ref a]))) : V E mJ30_init 1 0 0 [some (.ref it), some (.ref a)] [] h Q X := by
  refine V_open ha (fun hh P D => ?_)
  obtain ⟨ea, e1, e2⟩ := P
  have hia : it ≠ a := ne_t h1 ha rfl
  have h1' := ovl_old D hia h1
  have hi0 := dj.inn D h1 hia
  have pe := ovl_push (c := oO 20 [vI 0, vI (-1), vI mc, .ref a]) (h := h) hi0 hia
  refine V_aload_n dJ30_init_0 rfl ?_
  refine V_aload_n dJ30_init_1 rfl ?_
  refine V_putFE (fs' := [vI 0, vI 0, vI 0, .ref a]) okJ30 3 dJ30_init_2 q1502 (by decide) rfl rfl rfl h1' (by decide) (Nat.le_of_ble_eq_true rfl) rfl rfl rfl rfl ?_
  refine V_aload_n dJ30_init_5 rfl ?_
  refine V_objI dJ30_init_6 q1498 (Nat.le_of_ble_eq_true rfl) (by first | decide | omega) ?_
  refine V_aload_n dJ30_init_9 rfl ?_
  refine V_iconst dJ30_init_10 ?_
  refine V_putfE (fs' := [vI 0, vI (-1), vI 0, .ref a]) okJ30 1 dJ30_init_11 q1500 (by decide) rfl hset_eq (by decide) (Nat.le_of_ble_eq_true rfl) rfl rfl rfl hset_hset ?_
  refine V_aload_n dJ30_init_14 rfl ?_
  refine V_aload_n dJ30_init_15 rfl ?_
  refine V_getf okJ30 3 dJ30_init_16 q1502 (by decide) hset_eq rfl ?_
  refine V_getfS okJ4 0 dJ30_init_19 q268 q269 (by decide) ((hset_ne (ne_t (ovl_in e1) h1' rfl)).trans (ovl_in e1)) rfl ?_
  refine V_putfE (fs' := [vI 0, vI (-1), vI mc, .ref a]) okJ30 2 dJ30_init_22 q1501 (by decide) rfl hset_eq (by decide) (Nat.le_of_ble_eq_true rfl) rfl rfl rfl hset_hset ?_
  rw [pe]
  refine V_shut ((hset_ne hia.symm).trans ha) ⟨ea, e1, e2⟩ e1 (dj.push D hi0) ?_
  exact V_vret dJ30_init_25 rfl (by exact K)
theorem c_J4_iterator {b : Nat} (ha : h a = some (cAL E a mc l)) (hb : 5 ≤ b) (K : ∀ x, h x = none → Q (.ref x) (hset h x (oO 20 [vI 0, vI (-1), vI mc, .ref a]))) : V E mJ4_iterator 2 b 0 [some (.ref a)] [] h Q X := by
  refine V_new okJ30 dJ4_iterator_0 q1493 q1494 q137 (by decide) (by first | decide | omega) (fun x hx => ?_)
  refine V_dup dJ4_iterator_3 rfl ?_
  refine V_aload_n dJ4_iterator_4 rfl ?_
  refine V_invI (M' := mJ30_init) (As := [.ref a]) (rest := [.ref x]) okJ30_init dJ4_iterator_5 q1495 rfl rfl rfl (Nat.le_of_ble_eq_true rfl) (d' := 1) (b1 := 0) (by first | decide | omega) (by first | decide | omega) (c_J30_init hset_eq ((hset_ne (ne_f ha hx)).trans ha) ?_)
  refine V_heq hset_hset ?_
  exact V_aret dJ4_iterator_8 rfl rfl (Or.inr ⟨_, rfl⟩) (by exact K x hx)
theorem c_J30_hasNext {i lr : Int} (h1 : h it = some (oO 20 [vI i, vI lr, vI mc, .ref a])) (ha : h a = some (cAL E a mc l)) (hi : 0 ≤ i ∧ i ≤ l.length) (Kt : i ≠ l.length → Q (vI 1) h) (Kf : i = l.length → Q (vI 0) h) : V E mJ30_hasNext 0 0 0 [some (.ref it)] [] h Q X := by
  refine V_open ha (fun hh P D => ?_)
  obtain ⟨ea, e1, e2⟩ := P
  have hia : it ≠ a := ne_t h1 ha rfl
  have h1' := ovl_old D hia h1
  have hlen := alP.len e2
  refine V_aload_n dJ30_hasNext_0 rfl ?_
  refine V_getf okJ30 0 dJ30_hasNext_1 q1499 (by decide) h1' rfl ?_
  refine V_aload_n dJ30_hasNext_4 rfl ?_
  refine V_getf okJ30 3 dJ30_hasNext_5 q1502 (by decide) h1' rfl ?_
  refine V_getfN okJ4 2 dJ30_hasNext_8 (List.mem_append_left _ q265) (by decide) (ovl_in e1) rfl ?_
  refine V_shut ha ⟨ea, e1, e2⟩ e1 D ?_
  refine V_icmp_eq 18 dJ30_hasNext_11 (by decide) (by constructor <;> omega) (by constructor <;> omega) (fun c_11 => ?_) (fun c_11 => ?_)
  · refine V_iconst dJ30_hasNext_18 ?_
    exact V_zret dJ30_hasNext_19 rfl (by first | decide | omega) (by first | exact Kt (by omega) | exact Kf (by omega))
  · refine V_iconst dJ30_hasNext_14 ?_
    refine V_goto 19 dJ30_hasNext_15 (by decide) ?_
    exact V_zret dJ30_hasNext_19 rfl (by first | decide | omega) (by first | exact Kt (by omega) | exact Kf (by omega))
theorem c_J30_checkForComodification {v0 v1 v3 v4 : Value} (h1 : h it = some (oO 20 [v0, v1, vI mc, .ref a])) (ha : h a = some (oO 26 [vI mc, v3, v4])) (K : Q .null h) : V E mJ30_checkForComodification 0 0 0 [some (.ref it)] [] h Q X := by
  refine V_aload_n dJ30_checkForComodification_0 rfl ?_
  refine V_getf okJ30 3 dJ30_checkForComodification_1 q1502 (by decide) h1 rfl ?_
  refine V_getfS okJ4 0 dJ30_checkForComodification_4 q268 q269 (by decide) ha rfl ?_
  refine V_aload_n dJ30_checkForComodification_7 rfl ?_
  refine V_getf okJ30 2 dJ30_checkForComodification_8 q1501 (by decide) h1 rfl ?_
  refine V_icmp_eqS 22 dJ30_checkForComodification_11 (by decide) ?_
  exact V_vret dJ30_checkForComodification_22 rfl (by exact K)
theorem c_J30_next {i lr : Int} {x : Nat} (h1 : h it = some (oO 20 [vI i, vI lr, vI mc, .ref a])) (ha : h a = some (cAL E a mc l)) (hi : 0 ≤ i) (hx : l[i.toNat]? = some x) (K : Q (.ref x) (hset h it (oO 20 [vI (i + 1), vI i, vI mc, .ref a]))) : V E mJ30_next 1 0 0 [some (.ref it), none, none] [] h Q X := by
  refine V_open ha (fun hh P D => ?_)
  obtain ⟨ea, e1, e2⟩ := P
  have hia : it ≠ a := ne_t h1 ha rfl
  have h1' := ovl_old D hia h1
  have hi0 := dj.inn D h1 hia
  have pe := ovl_push (c := oO 20 [vI (i + 1), vI i, vI mc, .ref a]) (h := h) hi0 hia
  have hlen := alP.len e2
  have hil : i.toNat < l.length := (List.getElem?_eq_some_iff.mp hx).1
  rcases id e2 with ⟨rfl, -⟩ | ⟨n, g, e3, n1, n2, n3, hg⟩
  · cases hil
  · have hgx : g i = some x := by
      have := hg i.toNat (by omega)
      rw [show ((i.toNat : Nat) : Int) = i by omega] at this
      rw [this, hx]
    refine V_aload_n dJ30_next_0 rfl ?_
    refine V_invVc (M' := mJ30_checkForComodification) (As := []) (rest := []) okJ30_checkForComodification dJ30_next_1 q897 rfl rfl (clsE.o h1') rfl rfl (Nat.le_of_ble_eq_true rfl) (d' := 0) (b1 := 0) (by first | decide | omega) (by first | decide | omega) (c_J30_checkForComodification h1' (ovl_in e1) ?_)
    refine V_aload_n dJ30_next_4 rfl ?_
    refine V_getf okJ30 0 dJ30_next_5 q1499 (by decide) h1' rfl ?_
    refine V_istore_n dJ30_next_8 (by decide) ?_
    refine V_iload_n dJ30_next_9 rfl ?_
    refine V_aload_n dJ30_next_10 rfl ?_
    refine V_getf okJ30 3 dJ30_next_11 q1502 (by decide) h1' rfl ?_
    refine V_getfN okJ4 2 dJ30_next_14 (List.mem_append_left _ q265) (by decide) (ovl_in e1) rfl ?_
    refine V_icmp_lt 28 dJ30_next_17 (by decide) (by constructor <;> omega) (by constructor <;> omega) (fun c_17 => ?_) (fun c_17 => by exfalso; omega)
    refine V_aload_n dJ30_next_28 rfl ?_
    refine V_getf okJ30 3 dJ30_next_29 q1502 (by decide) h1' rfl ?_
    refine V_getf okJ4 1 dJ30_next_32 q264 (by decide) (ovl_in e1) rfl ?_
    refine V_astore_n dJ30_next_35 (by decide) ?_
    refine V_iload_n dJ30_next_36 rfl ?_
    refine V_aload_n dJ30_next_37 rfl ?_
    refine V_alenR dJ30_next_38 (ovl_in e3) rfl ?_
    refine V_icmp_lt 50 dJ30_next_39 (by decide) (by constructor <;> omega) (by constructor <;> omega) (fun c_39 => ?_) (fun c_39 => by exfalso; omega)
    refine V_aload_n dJ30_next_50 rfl ?_
    refine V_iload_n dJ30_next_51 rfl ?_
    refine V_iconst dJ30_next_52 ?_
    refine V_iadd dJ30_next_53 ?_
    refine V_putfE (fs' := [vI (i + 1), vI lr, vI mc, .ref a]) okJ30 0 dJ30_next_54 q1499 (by decide) rfl h1' (by decide) (Nat.le_of_ble_eq_true rfl) rfl rfl rfl rfl ?_
    refine V_aload_n dJ30_next_57 rfl ?_
    refine V_aload_n dJ30_next_58 rfl ?_
    refine V_iload_n dJ30_next_59 rfl ?_
    refine V_dup_x1 dJ30_next_60 rfl rfl ?_
    refine V_putfE (fs' := [vI (i + 1), vI i, vI mc, .ref a]) okJ30 1 dJ30_next_61 q1500 (by decide) rfl hset_eq (by decide) (Nat.le_of_ble_eq_true rfl) rfl rfl rfl hset_hset ?_
    refine V_aald dJ30_next_64 ((hset_ne (ne_t (ovl_in e3) h1' rfl)).trans (ovl_in e3)) rfl (by omega) (by omega) (by first | decide | omega) ?_
    refine V_top9 (.ref x) (by rw [hgx]; rfl) ?_
    rw [pe]
    refine V_shut ((hset_ne hia.symm).trans ha) ⟨ea, e1, e2⟩ e1 (dj.push D hi0) ?_
    exact V_aret dJ30_next_65 rfl rfl (Or.inr ⟨_, rfl⟩) (by exact K)
end AL3
