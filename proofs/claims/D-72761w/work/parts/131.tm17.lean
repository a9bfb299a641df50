/-! TREEMAP: iterators -/
section TM17
variable {E : Ev} {M : Mt} {d b pc a n i x key w it : Nat} {ls : List (Option Value)} {st : List Value} {h hh : AH} {Q : Value → AH → Prop} {X : Nat → AH → Prop} {ad K W : Nat → Nat} {vs cmp nk : Value} {sz mc : Int} {T : TT} {lo hi : Nat → Nat} {c : Nat → Int} {z0 : Int}
/-- the entry at a place, or none -/
def nx (n : Nat) (ad : Nat → Nat) (i : Nat) : Value := if i < n then .ref (ad i) else .null
theorem nx_R : isR (nx n ad i) := by
  unfold nx
  split
  · exact isR.rr
  · exact isR.nn
theorem c_J1_getFirstEntryN (P : TH h a n ad K W vs cmp nk sz mc hh T) (S : Tsh n T lo hi) (K' : Q (nx n ad 0) (ovl h a hh)) : V E mJ1_getFirstEntry 0 0 0 [some (.ref a), none] [] (ovl h a hh) Q X :=
  c_J1_getFirstEntry P S (fun e => by unfold nx at K'; rw [if_neg (by omega)] at K'; exact K') (fun e => by unfold nx at K'; rw [if_pos e] at K'; exact K')
theorem c_J1_successorN (P : TH h a n ad K W vs cmp nk sz mc hh T) (S : Tsh n T lo hi) {i : Nat} (hn : i < n) (K' : Q (nx n ad (i + 1)) (ovl h a hh)) : V E mJ1_successor 0 0 0 [some (.ref (ad i)), none, none] [] (ovl h a hh) Q X :=
  c_J1_successor P S hn (fun e => by unfold nx at K'; rw [if_neg (by omega)] at K'; exact K') (fun e => by unfold nx at K'; rw [if_pos e] at K'; exact K')
theorem c_J33_init_22 {v v0 v1 v2 v3 v4 v6 v7 v8 : Value} (hv : isR v) (h1 : h it = some (oO 22 [.null, .null, vI 0, .null])) (h2 : h a = some (oO 15 [v0, v1, v2, v3, v4, vI mc, v6, v7, v8])) (K' : Q .null (hset h it (oO 22 [v, .null, vI mc, .ref a]))) : V E mJ33_init 1 0 0 [some (.ref it), some (.ref a), some v] [] h Q X := by
  refine V_aload_n dJ33_init_0 rfl ?_
  refine V_aload_n dJ33_init_1 rfl ?_
  refine V_putFE (fs' := [.null, .null, vI 0, .ref a]) okJ34 3 dJ33_init_2 q1864 (by decide) rfl rfl rfl h1 (by decide) (Nat.le_of_ble_eq_true rfl) rfl rfl rfl rfl ?_
  refine V_aload_n dJ33_init_5 rfl ?_
  refine V_objI dJ33_init_6 q1860 (Nat.le_of_ble_eq_true rfl) (by first | decide | omega) ?_
  refine V_aload_n dJ33_init_9 rfl ?_
  refine V_aload_n dJ33_init_10 rfl ?_
  refine V_getfN okJ1 5 dJ33_init_11 (List.mem_append_left _ q193) (by decide) ((hset_ne (ne_t h2 h1 rfl)).trans h2) rfl ?_
  refine V_putfE (fs' := [.null, .null, vI mc, .ref a]) okJ34 2 dJ33_init_14 q1863 (by decide) rfl hset_eq (by decide) (Nat.le_of_ble_eq_true rfl) rfl rfl rfl hset_hset ?_
  refine V_aload_n dJ33_init_17 rfl ?_
  refine V_null dJ33_init_18 ?_
  refine V_putfE (fs' := [.null, .null, vI mc, .ref a]) okJ34 1 dJ33_init_19 q1862 (by decide) rfl hset_eq (by decide) (Nat.le_of_ble_eq_true rfl) rfl rfl rfl hset_hset ?_
  refine V_aload_n dJ33_init_22 rfl ?_
  refine V_aload_nG dJ33_init_23 hv rfl ?_
  refine V_putfE (fs' := [v, .null, vI mc, .ref a]) okJ34 0 dJ33_init_24 q1861 (by decide) rfl hset_eq (by decide) (Nat.le_of_ble_eq_true rfl) (isR.narO hv) (isR.fitO hv) rfl hset_hset ?_
  exact V_vret dJ33_init_27 rfl (by exact K')
theorem c_J34_init {v v0 v1 v2 v3 v4 v6 v7 v8 : Value} (hv : isR v) (h1 : h it = some (oO 22 [.null, .null, vI 0, .null])) (h2 : h a = some (oO 15 [v0, v1, v2, v3, v4, vI mc, v6, v7, v8])) (K' : Q .null (hset h it (oO 22 [v, .null, vI mc, .ref a]))) : V E mJ34_init 2 0 0 [some (.ref it), some (.ref a), some v] [] h Q X := by
  refine V_aload_n dJ34_init_0 rfl ?_
  refine V_aload_n dJ34_init_1 rfl ?_
  refine V_aload_nG dJ34_init_2 hv rfl ?_
  refine V_invI (M' := mJ33_init) (As := [.ref a, v]) (rest := []) okJ33_init dJ34_init_3 q1857 rfl rfl (catC rfl (catC (isR.cat hv) catN)) (Nat.le_of_ble_eq_true rfl) (d' := 1) (b1 := 0) (by first | decide | omega) (by first | decide | omega) (c_J33_init_22 hv h1 h2 ?_)
  exact V_vret dJ34_init_6 rfl (by exact K')
/-- has it another one? -/
theorem c_J33_hasNext_22 {v1 : Value} (h1 : h it = some (oO 22 [nx n ad i, v1, vI mc, .ref a])) (Kt : i < n → Q (vI 1) h) (Kf : n ≤ i → Q (vI 0) h) : V E mJ33_hasNext 0 0 0 [some (.ref it)] [] h Q X := by
  by_cases e : i < n
  · have e1 : nx n ad i = .ref (ad i) := if_pos e
    rw [e1] at h1
    refine V_aload_n dJ33_hasNext_0 rfl ?_
    refine V_getf okJ34 0 dJ33_hasNext_1 q1861 (by decide) h1 rfl ?_
    refine V_ifnull dJ33_hasNext_4 ?_
    refine V_iconst dJ33_hasNext_7 ?_
    refine V_goto 12 dJ33_hasNext_8 (by decide) ?_
    exact V_zret dJ33_hasNext_12 rfl (by first | decide | omega) (by exact Kt e)
  · have e1 : nx n ad i = .null := if_neg e
    rw [e1] at h1
    refine V_aload_n dJ33_hasNext_0 rfl ?_
    refine V_getf okJ34 0 dJ33_hasNext_1 q1861 (by decide) h1 rfl ?_
    refine V_ifnullN 11 dJ33_hasNext_4 (by decide) ?_
    refine V_iconst dJ33_hasNext_11 ?_
    exact V_zret dJ33_hasNext_12 rfl (by first | decide | omega) (by exact Kf (by omega))
theorem c_J33_nextEntry_22 {v1 : Value} (P : TH h a n ad K W vs cmp nk sz mc hh T) (S : Tsh n T lo hi) (hi1 : i < n) (h1 : ovl h a hh it = some (oO 22 [.ref (ad i), v1, vI mc, .ref a])) (K' : Q (.ref (ad i)) (hset (ovl h a hh) it (oO 22 [nx n ad (i + 1), .ref (ad i), vI mc, .ref a]))) : V E mJ33_nextEntry 1 0 0 [some (.ref it), none] [] (ovl h a hh) Q X := by
  have en := P.en hi1
  refine V_aload_n dJ33_nextEntry_0 rfl ?_
  refine V_getf okJ34 0 dJ33_nextEntry_1 q1861 (by decide) h1 rfl ?_
  refine V_astore_n dJ33_nextEntry_4 (by decide) ?_
  refine V_aload_n dJ33_nextEntry_5 rfl ?_
  refine V_ifnonnull 17 dJ33_nextEntry_6 (by decide) ?_
  refine V_aload_n dJ33_nextEntry_17 rfl ?_
  refine V_getf okJ34 3 dJ33_nextEntry_18 q1864 (by decide) h1 rfl ?_
  refine V_getfN okJ1 5 dJ33_nextEntry_21 (List.mem_append_left _ q193) (by decide) P.ob rfl ?_
  refine V_aload_n dJ33_nextEntry_24 rfl ?_
  refine V_getf okJ34 2 dJ33_nextEntry_25 q1863 (by decide) h1 rfl ?_
  refine V_icmp_eqS 39 dJ33_nextEntry_28 (by decide) ?_
  refine V_aload_n dJ33_nextEntry_39 rfl ?_
  refine V_aload_n dJ33_nextEntry_40 rfl ?_
  refine V_invS (M' := mJ1_successor) (As := [.ref (ad i)]) (rest := [.ref it]) okJ1_successor dJ33_nextEntry_41 q931 rfl rfl rfl (Nat.le_of_ble_eq_true rfl) (d' := 0) (b1 := 0) (by first | decide | omega) (by first | decide | omega) (c_J1_successorN P S hi1 ?_)
  refine V_putfE (fs' := [(nx n ad (i + 1)), v1, vI mc, .ref a]) okJ34 0 dJ33_nextEntry_44 q1861 (by decide) rfl h1 (by decide) (Nat.le_of_ble_eq_true rfl) (isR.narO nx_R) (isR.fitO nx_R) rfl rfl ?_
  refine V_aload_n dJ33_nextEntry_47 rfl ?_
  refine V_aload_n dJ33_nextEntry_48 rfl ?_
  refine V_putfE (fs' := [(nx n ad (i + 1)), .ref (ad i), vI mc, .ref a]) okJ34 1 dJ33_nextEntry_49 q1862 (by decide) rfl hset_eq (by decide) (Nat.le_of_ble_eq_true rfl) rfl rfl rfl hset_hset ?_
  refine V_aload_n dJ33_nextEntry_52 rfl ?_
  exact V_aret dJ33_nextEntry_53 rfl rfl (Or.inr ⟨_, rfl⟩) (by exact K')
theorem c_J34_next {v1 : Value} (ha : h a = some (cTM a n ad K W cmp mc)) (h1 : h it = some (oO 22 [nx n ad i, v1, vI mc, .ref a])) (hi1 : i < n) (K' : Q (.ref (K i)) (hset h it (oO 22 [nx n ad (i + 1), .ref (ad i), vI mc, .ref a]))) : V E mJ34_next 2 0 0 [some (.ref it)] [] h Q X := by
  refine V_tm ha (fun hh vs nk T lo hi P S R => ?_)
  rw [show nx n ad i = .ref (ad i) from if_pos hi1] at h1
  have hia := ne_t h1 ha rfl
  have h1' := ovl_old P.1.1 hia h1
  have hi0 := P.1.1.inn h1 hia
  have en := P.en hi1
  have pe := ovl_push (c := oO 22 [nx n ad (i + 1), .ref (ad i), vI mc, .ref a]) (h := h) hi0 hia
  refine V_aload_n dJ34_next_0 rfl ?_
  refine V_invU (M' := mJ33_nextEntry) (As := []) (rest := []) (C0 := "java/util/TreeMap$KeyIterator") (owner := "java/util/TreeMap$PrivateEntryIterator") (x := ⟨"java/util/TreeMap$KeyIterator", "nextEntry", "()Ljava/util/TreeMap$Entry;"⟩) okmJ33_nextEntry (show OkX "java/util/TreeMap$PrivateEntryIterator" ⟨"java/util/TreeMap$KeyIterator", "nextEntry", "()Ljava/util/TreeMap$Entry;"⟩ 0 from ⟨by decide +kernel, by decide +kernel, by decide +kernel⟩) dJ34_next_1 ⟨q925, q926, q928⟩ rfl rfl rfl (clsE.o h1') rfl rfl (Nat.le_of_ble_eq_true rfl) (d' := 1) (b1 := 0) (by first | decide | omega) (by first | decide | omega) (c_J33_nextEntry_22 P S hi1 h1' ?_)
  refine V_getf okJ16 0 dJ34_next_4 q653 (by decide) ((hset_ne (ne_t en h1' rfl)).trans en) rfl ?_
  rw [pe]
  refine V_tms ((hset_ne hia.symm).trans ha) (P.all (P.1.1.push hi0)) S R ?_
  exact V_aret dJ34_next_7 rfl rfl (Or.inr ⟨_, rfl⟩) (by exact K')
theorem c_J33_init_23 {v v0 v1 v2 v3 v4 v6 v7 v8 : Value} (hv : isR v) (h1 : h it = some (oO 23 [.null, .null, vI 0, .null])) (h2 : h a = some (oO 15 [v0, v1, v2, v3, v4, vI mc, v6, v7, v8])) (K' : Q .null (hset h it (oO 23 [v, .null, vI mc, .ref a]))) : V E mJ33_init 1 0 0 [some (.ref it), some (.ref a), some v] [] h Q X := by
  refine V_aload_n dJ33_init_0 rfl ?_
  refine V_aload_n dJ33_init_1 rfl ?_
  refine V_putFE (fs' := [.null, .null, vI 0, .ref a]) okJ36 3 dJ33_init_2 q1864 (by decide) rfl rfl rfl h1 (by decide) (Nat.le_of_ble_eq_true rfl) rfl rfl rfl rfl ?_
  refine V_aload_n dJ33_init_5 rfl ?_
  refine V_objI dJ33_init_6 q1860 (Nat.le_of_ble_eq_true rfl) (by first | decide | omega) ?_
  refine V_aload_n dJ33_init_9 rfl ?_
  refine V_aload_n dJ33_init_10 rfl ?_
  refine V_getfN okJ1 5 dJ33_init_11 (List.mem_append_left _ q193) (by decide) ((hset_ne (ne_t h2 h1 rfl)).trans h2) rfl ?_
  refine V_putfE (fs' := [.null, .null, vI mc, .ref a]) okJ36 2 dJ33_init_14 q1863 (by decide) rfl hset_eq (by decide) (Nat.le_of_ble_eq_true rfl) rfl rfl rfl hset_hset ?_
  refine V_aload_n dJ33_init_17 rfl ?_
  refine V_null dJ33_init_18 ?_
  refine V_putfE (fs' := [.null, .null, vI mc, .ref a]) okJ36 1 dJ33_init_19 q1862 (by decide) rfl hset_eq (by decide) (Nat.le_of_ble_eq_true rfl) rfl rfl rfl hset_hset ?_
  refine V_aload_n dJ33_init_22 rfl ?_
  refine V_aload_nG dJ33_init_23 hv rfl ?_
  refine V_putfE (fs' := [v, .null, vI mc, .ref a]) okJ36 0 dJ33_init_24 q1861 (by decide) rfl hset_eq (by decide) (Nat.le_of_ble_eq_true rfl) (isR.narO hv) (isR.fitO hv) rfl hset_hset ?_
  exact V_vret dJ33_init_27 rfl (by exact K')
theorem c_J36_init {v v0 v1 v2 v3 v4 v6 v7 v8 : Value} (hv : isR v) (h1 : h it = some (oO 23 [.null, .null, vI 0, .null])) (h2 : h a = some (oO 15 [v0, v1, v2, v3, v4, vI mc, v6, v7, v8])) (K' : Q .null (hset h it (oO 23 [v, .null, vI mc, .ref a]))) : V E mJ36_init 2 0 0 [some (.ref it), some (.ref a), some v] [] h Q X := by
  refine V_aload_n dJ36_init_0 rfl ?_
  refine V_aload_n dJ36_init_1 rfl ?_
  refine V_aload_nG dJ36_init_2 hv rfl ?_
  refine V_invI (M' := mJ33_init) (As := [.ref a, v]) (rest := []) okJ33_init dJ36_init_3 q1909 rfl rfl (catC rfl (catC (isR.cat hv) catN)) (Nat.le_of_ble_eq_true rfl) (d' := 1) (b1 := 0) (by first | decide | omega) (by first | decide | omega) (c_J33_init_23 hv h1 h2 ?_)
  exact V_vret dJ36_init_6 rfl (by exact K')
/-- has it another one? -/
theorem c_J33_hasNext_23 {v1 : Value} (h1 : h it = some (oO 23 [nx n ad i, v1, vI mc, .ref a])) (Kt : i < n → Q (vI 1) h) (Kf : n ≤ i → Q (vI 0) h) : V E mJ33_hasNext 0 0 0 [some (.ref it)] [] h Q X := by
  by_cases e : i < n
  · have e1 : nx n ad i = .ref (ad i) := if_pos e
    rw [e1] at h1
    refine V_aload_n dJ33_hasNext_0 rfl ?_
    refine V_getf okJ36 0 dJ33_hasNext_1 q1861 (by decide) h1 rfl ?_
    refine V_ifnull dJ33_hasNext_4 ?_
    refine V_iconst dJ33_hasNext_7 ?_
    refine V_goto 12 dJ33_hasNext_8 (by decide) ?_
    exact V_zret dJ33_hasNext_12 rfl (by first | decide | omega) (by exact Kt e)
  · have e1 : nx n ad i = .null := if_neg e
    rw [e1] at h1
    refine V_aload_n dJ33_hasNext_0 rfl ?_
    refine V_getf okJ36 0 dJ33_hasNext_1 q1861 (by decide) h1 rfl ?_
    refine V_ifnullN 11 dJ33_hasNext_4 (by decide) ?_
    refine V_iconst dJ33_hasNext_11 ?_
    exact V_zret dJ33_hasNext_12 rfl (by first | decide | omega) (by exact Kf (by omega))
theorem c_J33_nextEntry_23 {v1 : Value} (P : TH h a n ad K W vs cmp nk sz mc hh T) (S : Tsh n T lo hi) (hi1 : i < n) (h1 : ovl h a hh it = some (oO 23 [.ref (ad i), v1, vI mc, .ref a])) (K' : Q (.ref (ad i)) (hset (ovl h a hh) it (oO 23 [nx n ad (i + 1), .ref (ad i), vI mc, .ref a]))) : V E mJ33_nextEntry 1 0 0 [some (.ref it), none] [] (ovl h a hh) Q X := by
  have en := P.en hi1
  refine V_aload_n dJ33_nextEntry_0 rfl ?_
  refine V_getf okJ36 0 dJ33_nextEntry_1 q1861 (by decide) h1 rfl ?_
  refine V_astore_n dJ33_nextEntry_4 (by decide) ?_
  refine V_aload_n dJ33_nextEntry_5 rfl ?_
  refine V_ifnonnull 17 dJ33_nextEntry_6 (by decide) ?_
  refine V_aload_n dJ33_nextEntry_17 rfl ?_
  refine V_getf okJ36 3 dJ33_nextEntry_18 q1864 (by decide) h1 rfl ?_
  refine V_getfN okJ1 5 dJ33_nextEntry_21 (List.mem_append_left _ q193) (by decide) P.ob rfl ?_
  refine V_aload_n dJ33_nextEntry_24 rfl ?_
  refine V_getf okJ36 2 dJ33_nextEntry_25 q1863 (by decide) h1 rfl ?_
  refine V_icmp_eqS 39 dJ33_nextEntry_28 (by decide) ?_
  refine V_aload_n dJ33_nextEntry_39 rfl ?_
  refine V_aload_n dJ33_nextEntry_40 rfl ?_
  refine V_invS (M' := mJ1_successor) (As := [.ref (ad i)]) (rest := [.ref it]) okJ1_successor dJ33_nextEntry_41 q931 rfl rfl rfl (Nat.le_of_ble_eq_true rfl) (d' := 0) (b1 := 0) (by first | decide | omega) (by first | decide | omega) (c_J1_successorN P S hi1 ?_)
  refine V_putfE (fs' := [(nx n ad (i + 1)), v1, vI mc, .ref a]) okJ36 0 dJ33_nextEntry_44 q1861 (by decide) rfl h1 (by decide) (Nat.le_of_ble_eq_true rfl) (isR.narO nx_R) (isR.fitO nx_R) rfl rfl ?_
  refine V_aload_n dJ33_nextEntry_47 rfl ?_
  refine V_aload_n dJ33_nextEntry_48 rfl ?_
  refine V_putfE (fs' := [(nx n ad (i + 1)), .ref (ad i), vI mc, .ref a]) okJ36 1 dJ33_nextEntry_49 q1862 (by decide) rfl hset_eq (by decide) (Nat.le_of_ble_eq_true rfl) rfl rfl rfl hset_hset ?_
  refine V_aload_n dJ33_nextEntry_52 rfl ?_
  exact V_aret dJ33_nextEntry_53 rfl rfl (Or.inr ⟨_, rfl⟩) (by exact K')
theorem c_J36_next {v1 : Value} (ha : h a = some (cTM a n ad K W cmp mc)) (h1 : h it = some (oO 23 [nx n ad i, v1, vI mc, .ref a])) (hi1 : i < n) (K' : Q (.ref (W i)) (hset h it (oO 23 [nx n ad (i + 1), .ref (ad i), vI mc, .ref a]))) : V E mJ36_next 2 0 0 [some (.ref it)] [] h Q X := by
  refine V_tm ha (fun hh vs nk T lo hi P S R => ?_)
  rw [show nx n ad i = .ref (ad i) from if_pos hi1] at h1
  have hia := ne_t h1 ha rfl
  have h1' := ovl_old P.1.1 hia h1
  have hi0 := P.1.1.inn h1 hia
  have en := P.en hi1
  have pe := ovl_push (c := oO 23 [nx n ad (i + 1), .ref (ad i), vI mc, .ref a]) (h := h) hi0 hia
  refine V_aload_n dJ36_next_0 rfl ?_
  refine V_invU (M' := mJ33_nextEntry) (As := []) (rest := []) (C0 := "java/util/TreeMap$ValueIterator") (owner := "java/util/TreeMap$PrivateEntryIterator") (x := ⟨"java/util/TreeMap$ValueIterator", "nextEntry", "()Ljava/util/TreeMap$Entry;"⟩) okmJ33_nextEntry (show OkX "java/util/TreeMap$PrivateEntryIterator" ⟨"java/util/TreeMap$ValueIterator", "nextEntry", "()Ljava/util/TreeMap$Entry;"⟩ 0 from ⟨by decide +kernel, by decide +kernel, by decide +kernel⟩) dJ36_next_1 ⟨q963, q964, q965⟩ rfl rfl rfl (clsE.o h1') rfl rfl (Nat.le_of_ble_eq_true rfl) (d' := 1) (b1 := 0) (by first | decide | omega) (by first | decide | omega) (c_J33_nextEntry_23 P S hi1 h1' ?_)
  refine V_getf okJ16 1 dJ36_next_4 q658 (by decide) ((hset_ne (ne_t en h1' rfl)).trans en) rfl ?_
  rw [pe]
  refine V_tms ((hset_ne hia.symm).trans ha) (P.all (P.1.1.push hi0)) S R ?_
  exact V_aret dJ36_next_7 rfl rfl (Or.inr ⟨_, rfl⟩) (by exact K')
theorem c_J1_keyIterator {b : Nat} (P : TH h a n ad K W vs cmp nk n mc hh T) (S : Tsh n T lo hi) (hb : 5 ≤ b) (K' : ∀ it, ovl h a hh it = none → Q (.ref it) (ovl (hset h it (oO 22 [nx n ad 0, .null, vI mc, .ref a])) a hh)) : V E mJ1_keyIterator 3 b 0 [some (.ref a)] [] (ovl h a hh) Q X := by
  refine V_new okJ34 dJ1_keyIterator_0 q1852 q1853 q147 (by decide) (by first | decide | omega) (fun x hx => ?_)
  refine V_dup dJ1_keyIterator_3 rfl ?_
  refine V_aload_n dJ1_keyIterator_4 rfl ?_
  refine V_aload_n dJ1_keyIterator_5 rfl ?_
  have hx0 := ovl_none hx P.2.1
  rw [ovl_push hx0.1 hx0.2.2]
  have P2 := P.all (P.1.1.push (x := x) (c := oO 22 [.null, .null, vI 0, .null]) hx0.1)
  refine V_invVc (M' := mJ1_getFirstEntry) (As := []) (rest := [.ref a, .ref x, .ref x]) okJ1_getFirstEntry dJ1_keyIterator_6 q990 rfl rfl (clsE.o P2.ob) rfl rfl (Nat.le_of_ble_eq_true rfl) (d' := 0) (b1 := 0) (by first | decide | omega) (by first | decide | omega) (c_J1_getFirstEntryN P2 S ?_)
  refine V_invI (M' := mJ34_init) (As := [.ref a, (nx n ad 0)]) (rest := [.ref x]) okJ34_init dJ1_keyIterator_9 q1854 rfl rfl (catC rfl (catC (isR.cat nx_R) catN)) (Nat.le_of_ble_eq_true rfl) (d' := 2) (b1 := 0) (by first | decide | omega) (by first | decide | omega) (c_J34_init nx_R (ovl_old P2.1.1 hx0.2.2 hset_eq) P2.ob ?_)
  rw [ovl_push hx0.1 hx0.2.2, hset_hset]
  exact V_aret dJ1_keyIterator_12 rfl rfl (Or.inr ⟨_, rfl⟩) (by exact K' x hx)
theorem c_J31_iterator {b vv : Nat} (P : TH h a n ad K W vs cmp nk n mc hh T) (S : Tsh n T lo hi) (hv : ovl h a hh vv = some (oO 21 [.ref a])) (hb : 5 ≤ b) (K' : ∀ it, ovl h a hh it = none → Q (.ref it) (ovl (hset h it (oO 23 [nx n ad 0, .null, vI mc, .ref a])) a hh)) : V E mJ31_iterator 3 b 0 [some (.ref vv)] [] (ovl h a hh) Q X := by
  refine V_new okJ36 dJ31_iterator_0 q1903 q1904 q149 (by decide) (by first | decide | omega) (fun x hx => ?_)
  refine V_dup dJ31_iterator_3 rfl ?_
  refine V_aload_n dJ31_iterator_4 rfl ?_
  refine V_getf okJ31 0 dJ31_iterator_5 q1796 (by decide) ((hset_ne (ne_f hv hx)).trans hv) rfl ?_
  refine V_aload_n dJ31_iterator_8 rfl ?_
  refine V_getf okJ31 0 dJ31_iterator_9 q1796 (by decide) ((hset_ne (ne_f hv hx)).trans hv) rfl ?_
  have hx0 := ovl_none hx P.2.1
  rw [ovl_push hx0.1 hx0.2.2]
  have P2 := P.all (P.1.1.push (x := x) (c := oO 23 [.null, .null, vI 0, .null]) hx0.1)
  refine V_invVc (M' := mJ1_getFirstEntry) (As := []) (rest := [.ref a, .ref x, .ref x]) okJ1_getFirstEntry dJ31_iterator_12 q1905 rfl rfl (clsE.o P2.ob) rfl rfl (Nat.le_of_ble_eq_true rfl) (d' := 0) (b1 := 0) (by first | decide | omega) (by first | decide | omega) (c_J1_getFirstEntryN P2 S ?_)
  refine V_invI (M' := mJ36_init) (As := [.ref a, (nx n ad 0)]) (rest := [.ref x]) okJ36_init dJ31_iterator_15 q1906 rfl rfl (catC rfl (catC (isR.cat nx_R) catN)) (Nat.le_of_ble_eq_true rfl) (d' := 2) (b1 := 0) (by first | decide | omega) (by first | decide | omega) (c_J36_init nx_R (ovl_old P2.1.1 hx0.2.2 hset_eq) P2.ob ?_)
  rw [ovl_push hx0.1 hx0.2.2, hset_hset]
  exact V_aret dJ31_iterator_18 rfl rfl (Or.inr ⟨_, rfl⟩) (by exact K' x hx)
theorem c_J31_init {vv : Nat} (hv : h vv = some (oO 21 [.null])) (K' : Q .null (hset h vv (oO 21 [.ref a]))) : V E mJ31_init 2 0 0 [some (.ref vv), some (.ref a)] [] h Q X := by
  refine V_aload_n dJ31_init_0 rfl ?_
  refine V_aload_n dJ31_init_1 rfl ?_
  refine V_putFE (fs' := [.ref a]) okJ31 0 dJ31_init_2 q1796 (by decide) rfl rfl rfl hv (by decide) (Nat.le_of_ble_eq_true rfl) rfl rfl rfl rfl ?_
  refine V_aload_n dJ31_init_5 rfl ?_
  refine V_invI (M' := mJ2_init) (As := []) (rest := []) okJ2_init dJ31_init_6 q1795 rfl rfl rfl (Nat.le_of_ble_eq_true rfl) (d' := 1) (b1 := 0) (by first | decide | omega) (by first | decide | omega) (c_J2_init ?_)
  exact V_vret dJ31_init_9 rfl (by exact K')
theorem c_J5_init (K' : Q .null h) : V E mJ5_init 2 0 0 [some (.ref a)] [] h Q X := by
  refine V_aload_n dJ5_init_0 rfl ?_
  refine V_invI (M' := mJ2_init) (As := []) (rest := []) okJ2_init dJ5_init_1 q323 rfl rfl rfl (Nat.le_of_ble_eq_true rfl) (d' := 1) (b1 := 0) (by first | decide | omega) (by first | decide | omega) (c_J2_init ?_)
  exact V_vret dJ5_init_4 rfl (by exact K')
theorem c_J37_init {vv : Nat} (hv : h vv = some (oO 24 [.null])) (K' : Q .null (hset h vv (oO 24 [.ref a]))) : V E mJ37_init 3 0 0 [some (.ref vv), some (.ref a)] [] h Q X := by
  refine V_aload_n dJ37_init_0 rfl ?_
  refine V_invI (M' := mJ5_init) (As := []) (rest := []) okJ5_init dJ37_init_1 q1935 rfl rfl rfl (Nat.le_of_ble_eq_true rfl) (d' := 2) (b1 := 0) (by first | decide | omega) (by first | decide | omega) (c_J5_init ?_)
  refine V_aload_n dJ37_init_4 rfl ?_
  refine V_aload_n dJ37_init_5 rfl ?_
  refine V_putFE (fs' := [.ref a]) okJ37 0 dJ37_init_6 q1936 (by decide) rfl rfl rfl hv (by decide) (Nat.le_of_ble_eq_true rfl) rfl rfl rfl rfl ?_
  exact V_vret dJ37_init_9 rfl (by exact K')
/-- the view of the values -/
theorem c_J1_values {b : Nat} (P : TH h a n ad K W vs cmp nk n mc hh T) (hb : 2 ≤ b) (K' : ∀ hh' vv, TH h a n ad K W (.ref vv) cmp nk n mc hh' T → Q (.ref vv) (ovl h a hh')) : V E mJ1_values 3 b 0 [some (.ref a), none] [] (ovl h a hh) Q X := by
  rcases id P.1.2.1 with rfl | ⟨vv, rfl, hv⟩
  · refine V_aload_n dJ1_values_0 rfl ?_
    refine V_getfS okJ1 1 dJ1_values_1 q197 q198 (by decide) P.ob rfl ?_
    refine V_astore_nN dJ1_values_4 (by decide) ?_
    refine V_aload_nN dJ1_values_5 rfl ?_
    refine V_ifnonnullN dJ1_values_6 ?_
    refine V_new okJ31 dJ1_values_9 q1790 q1791 q144 (by decide) (by first | decide | omega) (fun x hx => ?_)
    refine V_dup dJ1_values_12 rfl ?_
    refine V_aload_n dJ1_values_13 rfl ?_
    refine V_invI (M' := mJ31_init) (As := [.ref a]) (rest := [.ref x]) okJ31_init dJ1_values_14 q1792 rfl rfl rfl (Nat.le_of_ble_eq_true rfl) (d' := 2) (b1 := 0) (by first | decide | omega) (by first | decide | omega) (c_J31_init hset_eq ?_)
    refine V_heq hset_hset ?_
    refine V_astore_n dJ1_values_17 (by decide) ?_
    rw [ovl_set]
    have P2 := P.ext (c := oO 21 [.ref a]) hx
    refine V_aload_n dJ1_values_18 rfl ?_
    refine V_aload_n dJ1_values_19 rfl ?_
    refine VT_putVs P2 dJ1_values_20 q197 q198 ⟨Or.inr ⟨x, rfl, hset_eq⟩, P2.1.2.2⟩ (fun hh20_2 P20_2 => ?_)
    refine V_aload_n dJ1_values_23 rfl ?_
    exact V_aret dJ1_values_24 rfl rfl (Or.inr ⟨_, rfl⟩) (by exact K' _ _ P20_2)
  · refine V_aload_n dJ1_values_0 rfl ?_
    refine V_getfS okJ1 1 dJ1_values_1 q197 q198 (by decide) P.ob rfl ?_
    refine V_astore_n dJ1_values_4 (by decide) ?_
    refine V_aload_n dJ1_values_5 rfl ?_
    refine V_ifnonnull 23 dJ1_values_6 (by decide) ?_
    refine V_aload_n dJ1_values_23 rfl ?_
    exact V_aret dJ1_values_24 rfl rfl (Or.inr ⟨_, rfl⟩) (by exact K' hh vv P)
theorem c_J1_navigableKeySet {b : Nat} (P : TH h a n ad K W vs cmp nk n mc hh T) (hb : 2 ≤ b) (K' : ∀ hh' vv, TH h a n ad K W vs cmp (.ref vv) n mc hh' T → Q (.ref vv) (ovl h a hh')) : V E mJ1_navigableKeySet 4 b 0 [some (.ref a), none] [] (ovl h a hh) Q X := by
  rcases id P.1.2.2 with rfl | ⟨vv, rfl, hv⟩
  · refine V_aload_n dJ1_navigableKeySet_0 rfl ?_
    refine V_getf okJ1 7 dJ1_navigableKeySet_1 q196 (by decide) P.ob rfl ?_
    refine V_astore_nN dJ1_navigableKeySet_4 (by decide) ?_
    refine V_aload_nN dJ1_navigableKeySet_5 rfl ?_
    refine V_ifnullN 13 dJ1_navigableKeySet_6 (by decide) ?_
    refine V_aload_n dJ1_navigableKeySet_13 rfl ?_
    refine V_new okJ37 dJ1_navigableKeySet_14 q1930 q1931 q150 (by decide) (by first | decide | omega) (fun x hx => ?_)
    refine V_dup dJ1_navigableKeySet_17 rfl ?_
    refine V_aload_n dJ1_navigableKeySet_18 rfl ?_
    refine V_invI (M' := mJ37_init) (As := [.ref a]) (rest := [.ref x, .ref a]) okJ37_init dJ1_navigableKeySet_19 q1932 rfl rfl rfl (Nat.le_of_ble_eq_true rfl) (d' := 3) (b1 := 0) (by first | decide | omega) (by first | decide | omega) (c_J37_init hset_eq ?_)
    refine V_heq hset_hset ?_
    rw [ovl_set]
    have P2 := P.ext (c := oO 24 [.ref a]) hx
    refine V_dup_x1 dJ1_navigableKeySet_22 rfl rfl ?_
    refine VT_putNk P2 dJ1_navigableKeySet_23 q196  ⟨P2.1.2.1, Or.inr ⟨x, rfl, hset_eq⟩⟩ (fun hh23_2 P23_2 => ?_)
    exact V_aret dJ1_navigableKeySet_26 rfl rfl (Or.inr ⟨_, rfl⟩) (by exact K' _ _ P23_2)
  · refine V_aload_n dJ1_navigableKeySet_0 rfl ?_
    refine V_getf okJ1 7 dJ1_navigableKeySet_1 q196 (by decide) P.ob rfl ?_
    refine V_astore_n dJ1_navigableKeySet_4 (by decide) ?_
    refine V_aload_n dJ1_navigableKeySet_5 rfl ?_
    refine V_ifnull dJ1_navigableKeySet_6 ?_
    refine V_aload_n dJ1_navigableKeySet_9 rfl ?_
    refine V_goto 26 dJ1_navigableKeySet_10 (by decide) ?_
    exact V_aret dJ1_navigableKeySet_26 rfl rfl (Or.inr ⟨_, rfl⟩) (by exact K' hh vv P)
theorem c_J37_iterator {b vv : Nat} (P : TH h a n ad K W vs cmp nk n mc hh T) (S : Tsh n T lo hi) (hv : ovl h a hh vv = some (oO 24 [.ref a])) (hb : 5 ≤ b) (K' : ∀ it, ovl h a hh it = none → Q (.ref it) (ovl (hset h it (oO 22 [nx n ad 0, .null, vI mc, .ref a])) a hh)) : V E mJ37_iterator 4 b 0 [some (.ref vv)] [] (ovl h a hh) Q X := by
  refine V_aload_n dJ37_iterator_0 rfl ?_
  refine V_getf okJ37 0 dJ37_iterator_1 q1936 (by decide) hv rfl ?_
  refine V_instE dJ37_iterator_4 q1847 rfl (clsE.o P.ob) ?_
  refine V_if_eq 21 dJ37_iterator_7 (by decide) (by first | omega | decide) (fun c_7 => absurd c_7 (by decide)) (fun c_7 => ?_)
  refine V_aload_n dJ37_iterator_10 rfl ?_
  refine V_getf okJ37 0 dJ37_iterator_11 q1936 (by decide) hv rfl ?_
  refine V_castE dJ37_iterator_14 q1847 rfl (clsE.o P.ob) ?_
  refine V_invVc (M' := mJ1_keyIterator) (As := []) (rest := []) okJ1_keyIterator dJ37_iterator_17 q1848 rfl rfl (clsE.o P.ob) rfl rfl (Nat.le_of_ble_eq_true rfl) (d' := 3) (b1 := b) (by first | decide | omega) (by first | decide | omega) (c_J1_keyIterator P S hb (fun it hit => ?_))
  exact V_aret dJ37_iterator_20 rfl rfl (Or.inr ⟨_, rfl⟩) (by exact K' it hit)
theorem c_J6_iterator {b ts : Nat} (ht : h ts = some (oO 28 [.ref a])) (ha : h a = some (cTM a n ad K W cmp mc)) (hb : 10 ≤ b) (K' : ∀ it, h it = none → Q (.ref it) (hset h it (oO 22 [nx n ad 0, .null, vI mc, .ref a]))) : V E mJ6_iterator 5 b 0 [some (.ref ts)] [] h Q X := by
  refine V_tm ha (fun hh vs nk T lo hi P S R => ?_)
  have ht' := ovl_old P.1.1 (ne_t ht ha rfl) ht
  have fin : ∀ hh' vv, TH h a n ad K W vs cmp (.ref vv) n mc hh' T → ∀ b', 5 ≤ b' → V E mJ6_iterator 5 b' 9 [some (.ref ts)] [.ref vv] (ovl h a hh') Q X := by
    intro hh' vv P' b' hb'
    have hvv : ovl h a hh' vv = some (oO 24 [.ref a]) := by
      rcases P'.1.2.2 with e | ⟨x, e, hx⟩
      · cases e
      · cases e; exact ovl_in hx
    refine V_invF (M' := mJ37_iterator) (As := []) (rest := []) (C0 := "java/util/TreeMap$KeySet") (x := ⟨"java/util/NavigableSet", "iterator", "()Ljava/util/Iterator;"⟩) okmJ37_iterator (show OkX "java/util/NavigableSet" ⟨"java/util/NavigableSet", "iterator", "()Ljava/util/Iterator;"⟩ 0 from ⟨by decide +kernel, by decide +kernel, by decide +kernel⟩) dJ6_iterator_9 q1948 q1952 (List.mem_append_left _ q1950) (List.mem_append_left _ q1949) (List.mem_append_left _ q1845) (List.mem_append_left _ q1843) (List.mem_append_left _ q1951) rfl rfl (clsE.o hvv) rfl rfl (Nat.le_of_ble_eq_true rfl) (d' := 4) (b1 := b') (by first | decide | omega) (by first | decide | omega) (c_J37_iterator P' S hvv hb' (fun it hit => ?_))
    have hi0 := ovl_none hit P'.2.1
    refine V_tms ((hset_ne (fun e => hi0.2.2 e.symm)).trans ha) (P'.all (P'.1.1.push hi0.1)) S R ?_
    exact V_aret dJ6_iterator_14 rfl rfl (Or.inr ⟨_, rfl⟩) (K' it hi0.2.1)
  refine V_aload_n dJ6_iterator_0 rfl ?_
  refine V_getf okJ6 0 dJ6_iterator_1 q324 (by decide) ht' rfl ?_
  refine V_invF (M' := mJ1_navigableKeySet) (As := []) (rest := []) (C0 := "java/util/TreeMap") (x := ⟨"java/util/NavigableMap", "navigableKeySet", "()Ljava/util/NavigableSet;"⟩) okmJ1_navigableKeySet (show OkX "java/util/NavigableMap" ⟨"java/util/NavigableMap", "navigableKeySet", "()Ljava/util/NavigableSet;"⟩ 0 from ⟨by decide +kernel, by decide +kernel, by decide +kernel⟩) dJ6_iterator_4 q1922 q1925 (List.mem_append_left _ q1924) (List.mem_append_left _ q1923) (List.mem_append_left _ q1928) (List.mem_append_left _ q1926) (List.mem_append_left _ q413) rfl rfl (clsE.o P.ob) rfl rfl (Nat.le_of_ble_eq_true rfl) (d' := 4) (b1 := 2) (by first | decide | omega) (by first | decide | omega) (c_J1_navigableKeySet P (by omega) (fun hh' vv P' => fin hh' vv P' _ (by omega)))
  skip
end TM17
