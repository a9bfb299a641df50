/-! TREEMAP, TREESET: taking the first, the last, the floor; sets -/
section TM18
variable {E : Ev} {M : Mt} {d b pc a n i x key w it ts : Nat} {ls : List (Option Value)} {st : List Value} {h hh : AH} {Q : Value → AH → Prop} {X : Nat → AH → Prop} {ad K W : Nat → Nat} {vs cmp nk : Value} {sz mc : Int} {T : TT} {lo hi : Nat → Nat} {c : Nat → Int} {z0 : Int}
theorem c_J16_getKey {e k0 w0 : Nat} {v2 v3 v4 v5 : Value} (he : h e = some (oO 16 [.ref k0, .ref w0, v2, v3, v4, v5])) (K' : Q (.ref k0) h) : V E mJ16_getKey 0 0 0 [some (.ref e)] [] h Q X := by
  refine V_aload_n dJ16_getKey_0 rfl ?_
  refine V_getf okJ16 0 dJ16_getKey_1 q651 (by decide) he rfl ?_
  exact V_aret dJ16_getKey_4 rfl rfl (Or.inr ⟨_, rfl⟩) (by exact K')
theorem c_J16_getValue {e k0 w0 : Nat} {v2 v3 v4 v5 : Value} (he : h e = some (oO 16 [.ref k0, .ref w0, v2, v3, v4, v5])) (K' : Q (.ref w0) h) : V E mJ16_getValue 0 0 0 [some (.ref e)] [] h Q X := by
  refine V_aload_n dJ16_getValue_0 rfl ?_
  refine V_getf okJ16 1 dJ16_getValue_1 q657 (by decide) he rfl ?_
  exact V_aret dJ16_getValue_4 rfl rfl (Or.inr ⟨_, rfl⟩) (by exact K')
theorem c_J23_init {e k0 w0 : Nat} {v2 v3 v4 v5 : Value} (he : h e = some (oO 16 [.ref k0, .ref w0, v2, v3, v4, v5])) (hx : h x = some (oO 19 [.null, .null])) (K' : Q .null (hset h x (oO 19 [.ref k0, .ref w0]))) : V E mJ23_init 1 0 0 [some (.ref x), some (.ref e)] [] h Q X := by
  refine V_aload_n dJ23_init_0 rfl ?_
  refine V_objI dJ23_init_1 q999 (Nat.le_of_ble_eq_true rfl) (by first | decide | omega) ?_
  refine V_aload_n dJ23_init_4 rfl ?_
  refine V_aload_n dJ23_init_5 rfl ?_
  refine V_invF (M' := mJ16_getKey) (As := []) (rest := [.ref x]) (C0 := "java/util/TreeMap$Entry") (x := ⟨"java/util/Map$Entry", "getKey", "()Ljava/lang/Object;"⟩) okmJ16_getKey (show OkX "java/util/Map$Entry" ⟨"java/util/Map$Entry", "getKey", "()Ljava/lang/Object;"⟩ 0 from ⟨by decide +kernel, by decide +kernel, by decide +kernel⟩) dJ23_init_6 q1001 q1011 (List.mem_append_left _ q1003) (List.mem_append_left _ q1002) (List.mem_append_left _ q1014) (List.mem_append_left _ q1012) (List.mem_append_left _ q1010) rfl rfl (clsE.o he) rfl rfl (Nat.le_of_ble_eq_true rfl) (d' := 0) (b1 := 0) (by first | decide | omega) (by first | decide | omega) (c_J16_getKey he ?_)
  refine V_putFE (fs' := [.ref k0, .null]) okJ23 0 dJ23_init_11 q1030 (by decide) rfl rfl rfl hx (by decide) (Nat.le_of_ble_eq_true rfl) rfl rfl rfl rfl ?_
  refine V_aload_n dJ23_init_14 rfl ?_
  refine V_aload_n dJ23_init_15 rfl ?_
  refine V_invF (M' := mJ16_getValue) (As := []) (rest := [.ref x]) (C0 := "java/util/TreeMap$Entry") (x := ⟨"java/util/Map$Entry", "getValue", "()Ljava/lang/Object;"⟩) okmJ16_getValue (show OkX "java/util/Map$Entry" ⟨"java/util/Map$Entry", "getValue", "()Ljava/lang/Object;"⟩ 0 from ⟨by decide +kernel, by decide +kernel, by decide +kernel⟩) dJ23_init_16 q1017 q1025 (List.mem_append_left _ q1019) (List.mem_append_left _ q1018) (List.mem_append_left _ q1028) (List.mem_append_left _ q1026) (List.mem_append_left _ q1010) rfl rfl (clsE.o ((hset_ne (ne_t he hx rfl)).trans he)) rfl rfl (Nat.le_of_ble_eq_true rfl) (d' := 0) (b1 := 0) (by first | decide | omega) (by first | decide | omega) (c_J16_getValue ((hset_ne (ne_t he hx rfl)).trans he) ?_)
  refine V_putFE (fs' := [.ref k0, .ref w0]) okJ23 1 dJ23_init_21 q1031 (by decide) rfl rfl rfl hset_eq (by decide) (Nat.le_of_ble_eq_true rfl) rfl rfl rfl hset_hset ?_
  exact V_vret dJ23_init_24 rfl (by exact K')
theorem c_J1_exportEntry {e k0 w0 : Nat} {v2 v3 v4 v5 : Value} {b : Nat} (he : h e = some (oO 16 [.ref k0, .ref w0, v2, v3, v4, v5])) (hb : 3 ≤ b) (K' : ∀ x, h x = none → Q (.ref x) (hset h x (oO 19 [.ref k0, .ref w0]))) : V E mJ1_exportEntry 2 b 0 [some (.ref e)] [] h Q X := by
  refine V_aload_n dJ1_exportEntry_0 rfl ?_
  refine V_ifnonnull 8 dJ1_exportEntry_1 (by decide) ?_
  refine V_new okJ23 dJ1_exportEntry_8 q994 q995 q125 (by decide) (by first | decide | omega) (fun x hx => ?_)
  refine V_dup dJ1_exportEntry_11 rfl ?_
  refine V_aload_n dJ1_exportEntry_12 rfl ?_
  refine V_invI (M' := mJ23_init) (As := [.ref e]) (rest := [.ref x]) okJ23_init dJ1_exportEntry_13 q996 rfl rfl rfl (Nat.le_of_ble_eq_true rfl) (d' := 1) (b1 := 0) (by first | decide | omega) (by first | decide | omega) (c_J23_init ((hset_ne (ne_f he hx)).trans he) hset_eq ?_)
  refine V_heq hset_hset ?_
  exact V_aret dJ1_exportEntry_16 rfl rfl (Or.inr ⟨_, rfl⟩) (by exact K' x hx)
theorem c_J1_pollFirstEntry {b : Nat} (ha : h a = some (cTM a (n + 1) ad K W cmp mc)) (hb : 3 ≤ b) (K' : ∀ x, h x = none → Q (.ref x) (hset (hset h x (oO 19 [.ref (K 0), .ref (W 0)])) a (cTM a n (sh1 ad) (sh1 K) (sh1 W) cmp (mc + 1)))) : V E mJ1_pollFirstEntry 3 b 0 [some (.ref a), none, none] [] h Q X := by
  refine V_tm ha (fun hh vs nk T lo hi P S R => ?_)
  have en := P.en (Nat.succ_pos n)
  have fin : V E mJ1_pollFirstEntry 3 (b - 0) 4 [some (.ref a), none, none] [.ref (ad 0)] (ovl h a hh) Q X := by
    refine V_astore_n dJ1_pollFirstEntry_4 (by decide) ?_
    refine V_aload_n dJ1_pollFirstEntry_5 rfl ?_
    refine V_invS (M' := mJ1_exportEntry) (As := [.ref (ad 0)]) (rest := []) okJ1_exportEntry dJ1_pollFirstEntry_6 q991 rfl rfl rfl (Nat.le_of_ble_eq_true rfl) (d' := 2) (b1 := 3) (by first | decide | omega) (by first | decide | omega) (c_J1_exportEntry en (by omega) (fun x hx => ?_))
    refine V_astore_n dJ1_pollFirstEntry_9 (by decide) ?_
    refine V_aload_n dJ1_pollFirstEntry_10 rfl ?_
    refine V_ifnull dJ1_pollFirstEntry_11 ?_
    have hx0 := ovl_none hx P.2.1
    rw [ovl_push hx0.1 hx0.2.2]
    have P2 := P.all (P.1.1.push (x := x) (c := oO 19 [.ref (K 0), .ref (W 0)]) hx0.1)
    refine V_aload_n dJ1_pollFirstEntry_14 rfl ?_
    refine V_aload_n dJ1_pollFirstEntry_15 rfl ?_
    refine V_invVc (M' := mJ1_deleteEntry) (As := [.ref (ad 0)]) (rest := []) okJ1_deleteEntry dJ1_pollFirstEntry_16 q1037 rfl rfl (clsE.o P2.ob) rfl rfl (Nat.le_of_ble_eq_true rfl) (d' := 2) (b1 := 0) (by first | decide | omega) (by first | decide | omega) (c_J1_deleteEntry P2 S R (fun hh' T' lo' hi' P' S' R' => ?_))
    have e9 : ((n + 1 : Nat) : Int) - 1 = (n : Nat) := (by omega)
    rw [e9] at P'
    refine V_aload_n dJ1_pollFirstEntry_19 rfl ?_
    refine V_tmc P' S' R' ?_
    exact V_aret dJ1_pollFirstEntry_20 rfl rfl (Or.inr ⟨_, rfl⟩) (K' x hx0.2.1)
  refine V_aload_n dJ1_pollFirstEntry_0 rfl ?_
  refine V_invVc (M' := mJ1_getFirstEntry) (As := []) (rest := []) okJ1_getFirstEntry dJ1_pollFirstEntry_1 q990 rfl rfl (clsE.o P.ob) rfl rfl (Nat.le_of_ble_eq_true rfl) (d' := 0) (b1 := 0) (by first | decide | omega) (by first | decide | omega) (c_J1_getFirstEntry P S (fun e => absurd e (Nat.succ_ne_zero n)) (fun _ => fin))
  skip
theorem c_J1_key {e k0 w0 : Nat} {v2 v3 v4 v5 : Value} (he : h e = some (oO 16 [.ref k0, .ref w0, v2, v3, v4, v5])) (K' : Q (.ref k0) h) : V E mJ1_key 0 0 0 [some (.ref e)] [] h Q X := by
  refine V_aload_n dJ1_key_0 rfl ?_
  refine V_ifnonnull 12 dJ1_key_1 (by decide) ?_
  refine V_aload_n dJ1_key_12 rfl ?_
  refine V_getf okJ16 0 dJ1_key_13 q656 (by decide) he rfl ?_
  exact V_aret dJ1_key_16 rfl rfl (Or.inr ⟨_, rfl⟩) (by exact K')
theorem c_J1_keyOrNull {e k0 w0 : Nat} {v2 v3 v4 v5 : Value} (he : h e = some (oO 16 [.ref k0, .ref w0, v2, v3, v4, v5])) (K' : Q (.ref k0) h) : V E mJ1_keyOrNull 0 0 0 [some (.ref e)] [] h Q X := by
  refine V_aload_n dJ1_keyOrNull_0 rfl ?_
  refine V_ifnonnull 8 dJ1_keyOrNull_1 (by decide) ?_
  refine V_aload_n dJ1_keyOrNull_8 rfl ?_
  refine V_getf okJ16 0 dJ1_keyOrNull_9 q656 (by decide) he rfl ?_
  exact V_aret dJ1_keyOrNull_12 rfl rfl (Or.inr ⟨_, rfl⟩) (by exact K')
theorem c_J1_keyOrNullN (K' : Q .null h) : V E mJ1_keyOrNull 0 0 0 [some .null] [] h Q X := by
  refine V_aload_nN dJ1_keyOrNull_0 rfl ?_
  refine V_ifnonnullN dJ1_keyOrNull_1 ?_
  refine V_null dJ1_keyOrNull_4 ?_
  refine V_goto 12 dJ1_keyOrNull_5 (by decide) ?_
  exact V_aret dJ1_keyOrNull_12 rfl rfl (Or.inl rfl) (by exact K')
theorem c_J1_lastKey (ha : h a = some (cTM a n ad K W cmp mc)) (hn : 0 < n) (K' : Q (.ref (K (n - 1))) h) : V E mJ1_lastKey 1 0 0 [some (.ref a)] [] h Q X := by
  refine V_tm ha (fun hh vs nk T lo hi P S R => ?_)
  have hi1 : n - 1 < n := by omega
  have en := P.en hi1
  have fin : V E mJ1_lastKey 1 0 4 [some (.ref a)] [.ref (ad (n - 1))] (ovl h a hh) Q X := by
    refine V_invS (M' := mJ1_key) (As := [.ref (ad (n - 1))]) (rest := []) okJ1_key dJ1_lastKey_4 q2083 rfl rfl rfl (Nat.le_of_ble_eq_true rfl) (d' := 0) (b1 := 0) (by first | decide | omega) (by first | decide | omega) (c_J1_key en ?_)
    refine V_tms ha P S R ?_
    exact V_aret dJ1_lastKey_7 rfl rfl (Or.inr ⟨_, rfl⟩) (by exact K')
  refine V_aload_n dJ1_lastKey_0 rfl ?_
  refine V_invVc (M' := mJ1_getLastEntry) (As := []) (rest := []) okJ1_getLastEntry dJ1_lastKey_1 q2079 rfl rfl (clsE.o P.ob) rfl rfl (Nat.le_of_ble_eq_true rfl) (d' := 0) (b1 := 0) (by first | decide | omega) (by first | decide | omega) (c_J1_getLastEntry P S (fun e => by omega) (fun _ => fin))
  skip
theorem c_J1_floorKey (ha : h a = some (cTM a n ad K W cmp mc)) (hk : ∀ i, i < n → cmpOk E h cmp key (K i) (c i)) (hs : Srt n c) (K0 : (∀ i, i < n → c i < 0) → Q .null h) (K1 : ∀ i, i < n → 0 ≤ c i → (∀ j, i < j → j < n → c j < 0) → Q (.ref (K i)) h) : V E mJ1_floorKey 6 0 0 [some (.ref a), some (.ref key)] [] h Q X := by
  refine V_tm ha (fun hh vs nk T lo hi P S R => ?_)
  have f0 : (∀ i, i < n → c i < 0) → V E mJ1_floorKey 6 0 5 [some (.ref a), some (.ref key)] [.null] (ovl h a hh) Q X := by
    intro z
    refine V_invS (M' := mJ1_keyOrNull) (As := [.null]) (rest := []) okJ1_keyOrNull dJ1_floorKey_5 q2188 rfl rfl rfl (Nat.le_of_ble_eq_true rfl) (d' := 0) (b1 := 0) (by first | decide | omega) (by first | decide | omega) (c_J1_keyOrNullN ?_)
    refine V_tms ha P S R ?_
    exact V_aret dJ1_floorKey_8 rfl rfl (Or.inl rfl) (by exact K0 z)
  have f1 : ∀ i, i < n → 0 ≤ c i → (∀ j, i < j → j < n → c j < 0) → V E mJ1_floorKey 6 0 5 [some (.ref a), some (.ref key)] [.ref (ad i)] (ovl h a hh) Q X := by
    intro i hi z1 z2
    have en := P.en hi
    refine V_invS (M' := mJ1_keyOrNull) (As := [.ref (ad i)]) (rest := []) okJ1_keyOrNull dJ1_floorKey_5 q2188 rfl rfl rfl (Nat.le_of_ble_eq_true rfl) (d' := 0) (b1 := 0) (by first | decide | omega) (by first | decide | omega) (c_J1_keyOrNull en ?_)
    refine V_tms ha P S R ?_
    exact V_aret dJ1_floorKey_8 rfl rfl (Or.inr ⟨_, rfl⟩) (by exact K1 i hi z1 z2)
  refine V_aload_n dJ1_floorKey_0 rfl ?_
  refine V_aload_n dJ1_floorKey_1 rfl ?_
  refine V_invVc (M' := mJ1_getFloorEntry) (As := [.ref key]) (rest := []) okJ1_getFloorEntry dJ1_floorKey_2 q2187 rfl rfl (clsE.o P.ob) rfl rfl (Nat.le_of_ble_eq_true rfl) (d' := 5) (b1 := 0) (by first | decide | omega) (by first | decide | omega) (c_J1_getFloorEntry P S (fun i hi => (hk i hi).inn P.1.1 ha) hs f0 f1)
  skip
theorem c_J6_init_2 (ht : h ts = some (oO 28 [.null])) (K' : Q .null (hset h ts (oO 28 [.ref a]))) : V E mJ6_init_2 3 0 0 [some (.ref ts), some (.ref a)] [] h Q X := by
  refine V_aload_n dJ6_init_2_0 rfl ?_
  refine V_invI (M' := mJ5_init) (As := []) (rest := []) okJ5_init dJ6_init_2_1 q320 rfl rfl rfl (Nat.le_of_ble_eq_true rfl) (d' := 2) (b1 := 0) (by first | decide | omega) (by first | decide | omega) (c_J5_init ?_)
  refine V_aload_n dJ6_init_2_4 rfl ?_
  refine V_aload_n dJ6_init_2_5 rfl ?_
  refine V_putfE (fs' := [.ref a]) okJ6 0 dJ6_init_2_6 q324 (by decide) rfl ht (by decide) (Nat.le_of_ble_eq_true rfl) rfl rfl rfl rfl ?_
  exact V_vret dJ6_init_2_9 rfl (by exact K')
theorem c_J6_init {b : Nat} (hc : isR cmp) (ht : h ts = some (oO 28 [.null])) (hb : 10 ≤ b) (K' : ∀ tm, h tm = none → Q .null (hset (hset h tm (cTM tm 0 ad K W cmp 0)) ts (oO 28 [.ref tm]))) : V E mJ6_init 4 b 0 [some (.ref ts), some cmp] [] h Q X := by
  refine V_aload_n dJ6_init_0 rfl ?_
  refine V_new okJ1 dJ6_init_1 q313 q181 q99 (by decide) (by first | decide | omega) (fun x hx => ?_)
  refine V_dup dJ6_init_4 rfl ?_
  refine V_aload_nG dJ6_init_5 hc rfl ?_
  refine V_invI (M' := mJ1_init_2) (As := [cmp]) (rest := [.ref x, .ref ts]) okJ1_init_2 dJ6_init_6 q314 rfl rfl (catC (isR.cat hc) catN) (Nat.le_of_ble_eq_true rfl) (d' := 2) (b1 := 0) (by first | decide | omega) (by first | decide | omega) (c_J1_init_2 (ad := ad) (K := K) (W := W) hc hset_eq ?_)
  refine V_heq hset_hset ?_
  refine V_invI (M' := mJ6_init_2) (As := [.ref x]) (rest := []) okJ6_init_2 dJ6_init_9 q317 rfl rfl rfl (Nat.le_of_ble_eq_true rfl) (d' := 3) (b1 := 0) (by first | decide | omega) (by first | decide | omega) (c_J6_init_2 ((hset_ne (ne_f ht hx)).trans ht) ?_)
  exact V_vret dJ6_init_12 rfl (by exact K' x hx)
theorem c_J6_add {b : Nat} (ht : h ts = some (oO 28 [.ref a])) (ha : h a = some (cTM a n ad K W cmp mc)) (hk : ∀ i, i < n → cmpOk E h cmp key (K i) (c i)) (h0k : cmpOk E h cmp key key z0) (hs : Srt n c) (hne : ∀ i, i < n → c i ≠ 0) (hb : 7 ≤ b) (K' : ∀ (x j : Nat), j ≤ n → (∀ i, i < j → 0 < c i) → (∀ i, j ≤ i → i < n → c i < 0) → Q (vI 1) (hset h a (cTM a (n + 1) (insF j x ad) (insF j key K) (insF j (E.2.2.2 3) W) cmp (mc + 1)))) : V E mJ6_add 8 b 0 [some (.ref ts), some (.ref key)] [] h Q X := by
  refine V_aload_n dJ6_add_0 rfl ?_
  refine V_getf okJ6 0 dJ6_add_1 q324 (by decide) ht rfl ?_
  refine V_aload_n dJ6_add_4 rfl ?_
  refine V_gets (v := .ref (E.2.2.2 3)) dJ6_add_5 q408 (List.mem_of_getElem? (i := 4) rfl) ?_
  refine V_invFU (M' := mJ1_put) (As := [.ref key, .ref (E.2.2.2 3)]) (rest := []) (C0 := "java/util/TreeMap") (J := "java/util/Map") (x := ⟨"java/util/NavigableMap", "put", "(Ljava/lang/Object;Ljava/lang/Object;)Ljava/lang/Object;"⟩) okmJ1_put (show OkX "java/util/NavigableMap" ⟨"java/util/NavigableMap", "put", "(Ljava/lang/Object;Ljava/lang/Object;)Ljava/lang/Object;"⟩ 2 from ⟨by decide +kernel, by decide +kernel, by decide +kernel⟩) (by decide +kernel) dJ6_add_8 fq558 q414 (by decide +kernel) (List.mem_append_left _ q412) (List.mem_append_left _ q411) (List.mem_append_right _ fq557) (List.mem_append_left _ q417) (List.mem_append_left _ q415) (List.mem_append_left _ q413) rfl rfl (clsE.c ha) rfl rfl (Nat.le_of_ble_eq_true rfl) (d' := 7) (b1 := b) (by first | decide | omega) (by first | decide | omega) (c_J1_putC ha hk h0k hs hne hb (fun x j hj h1 h2 => ?_))
  refine V_ifnonnullN dJ6_add_13 ?_
  refine V_iconst dJ6_add_16 ?_
  refine V_goto 21 dJ6_add_17 (by decide) ?_
  exact V_zret dJ6_add_21 rfl (by first | decide | omega) (by exact K' x j hj h1 h2)
theorem c_J6_size (ht : h ts = some (oO 28 [.ref a])) (ha : h a = some (cTM a n ad K W cmp mc)) (K' : Q (vI n) h) : V E mJ6_size 1 0 0 [some (.ref ts)] [] h Q X := by
  refine V_aload_n dJ6_size_0 rfl ?_
  refine V_getf okJ6 0 dJ6_size_1 q324 (by decide) ht rfl ?_
  refine V_invFU (M' := mJ1_size) (As := []) (rest := []) (C0 := "java/util/TreeMap") (J := "java/util/Map") (x := ⟨"java/util/NavigableMap", "size", "()I"⟩) okmJ1_size (show OkX "java/util/NavigableMap" ⟨"java/util/NavigableMap", "size", "()I"⟩ 0 from ⟨by decide +kernel, by decide +kernel, by decide +kernel⟩) (by decide +kernel) dJ6_size_4 fq560 q743 (by decide +kernel) (List.mem_append_left _ q742) (List.mem_append_left _ q741) (List.mem_append_right _ fq559) (List.mem_append_left _ q746) (List.mem_append_left _ q744) (List.mem_append_left _ q413) rfl rfl (clsE.c ha) rfl rfl (Nat.le_of_ble_eq_true rfl) (d' := 0) (b1 := 0) (by first | decide | omega) (by first | decide | omega) (c_J1_size ha ?_)
  exact V_iret dJ6_size_9 rfl (by exact K')
theorem c_J23_getKey {k0 w0 : Nat} (hx : h x = some (oO 19 [.ref k0, .ref w0])) (K' : Q (.ref k0) h) : V E mJ23_getKey 0 0 0 [some (.ref x)] [] h Q X := by
  refine V_aload_n dJ23_getKey_0 rfl ?_
  refine V_getf okJ23 0 dJ23_getKey_1 q1030 (by decide) hx rfl ?_
  exact V_aret dJ23_getKey_4 rfl rfl (Or.inr ⟨_, rfl⟩) (by exact K')
theorem c_J6_pollFirst {b : Nat} (ht : h ts = some (oO 28 [.ref a])) (ha : h a = some (cTM a (n + 1) ad K W cmp mc)) (hb : 3 ≤ b) (K' : Q (.ref (K 0)) (hset h a (cTM a n (sh1 ad) (sh1 K) (sh1 W) cmp (mc + 1)))) : V E mJ6_pollFirst 4 b 0 [some (.ref ts), none] [] h Q X := by
  refine V_aload_n dJ6_pollFirst_0 rfl ?_
  refine V_getf okJ6 0 dJ6_pollFirst_1 q324 (by decide) ht rfl ?_
  refine V_invF (M' := mJ1_pollFirstEntry) (As := []) (rest := []) (C0 := "java/util/TreeMap") (x := ⟨"java/util/NavigableMap", "pollFirstEntry", "()Ljava/util/Map$Entry;"⟩) okmJ1_pollFirstEntry (show OkX "java/util/NavigableMap" ⟨"java/util/NavigableMap", "pollFirstEntry", "()Ljava/util/Map$Entry;"⟩ 0 from ⟨by decide +kernel, by decide +kernel, by decide +kernel⟩) dJ6_pollFirst_4 q982 q985 (List.mem_append_left _ q984) (List.mem_append_left _ q983) (List.mem_append_left _ q988) (List.mem_append_left _ q986) (List.mem_append_left _ q413) rfl rfl (clsE.c ha) rfl rfl (Nat.le_of_ble_eq_true rfl) (d' := 3) (b1 := 3) (by first | decide | omega) (by first | decide | omega) (c_J1_pollFirstEntry ha (by omega) (fun x hx => ?_))
  refine V_astore_n dJ6_pollFirst_9 (by decide) ?_
  refine V_aload_n dJ6_pollFirst_10 rfl ?_
  refine V_ifnonnull 18 dJ6_pollFirst_11 (by decide) ?_
  refine V_aload_n dJ6_pollFirst_18 rfl ?_
  refine V_invF (M' := mJ23_getKey) (As := []) (rest := []) (C0 := "java/util/AbstractMap$SimpleImmutableEntry") (x := ⟨"java/util/Map$Entry", "getKey", "()Ljava/lang/Object;"⟩) okmJ23_getKey (show OkX "java/util/Map$Entry" ⟨"java/util/Map$Entry", "getKey", "()Ljava/lang/Object;"⟩ 0 from ⟨by decide +kernel, by decide +kernel, by decide +kernel⟩) dJ6_pollFirst_19 q1061 q1005 (List.mem_append_left _ q1003) (List.mem_append_left _ q1002) (List.mem_append_left _ q1008) (List.mem_append_left _ q1006) (List.mem_append_left _ q1004) rfl rfl (clsE.o ((hset_ne (Ne.symm (ne_f ha hx))).trans hset_eq)) rfl rfl (Nat.le_of_ble_eq_true rfl) (d' := 0) (b1 := 0) (by first | decide | omega) (by first | decide | omega) (c_J23_getKey ((hset_ne (Ne.symm (ne_f ha hx))).trans hset_eq) ?_)
  refine V_drop (h := hset h a (cTM a n (sh1 ad) (sh1 K) (sh1 W) cmp (mc + 1))) (fun q c hq => ?_) ?_
  · unfold hset at hq ⊢; by_cases e : q = a; simp [e] at hq ⊢; exact hq; by_cases e2 : q = x; simp [e] at hq; rw [e2, hx] at hq; cases hq; simp [e, e2] at hq ⊢; exact hq
  exact V_aret dJ6_pollFirst_24 rfl rfl (Or.inr ⟨_, rfl⟩) (by exact K')
theorem c_J6_last (ht : h ts = some (oO 28 [.ref a])) (ha : h a = some (cTM a n ad K W cmp mc)) (hn : 0 < n) (K' : Q (.ref (K (n - 1))) h) : V E mJ6_last 2 0 0 [some (.ref ts)] [] h Q X := by
  refine V_aload_n dJ6_last_0 rfl ?_
  refine V_getf okJ6 0 dJ6_last_1 q324 (by decide) ht rfl ?_
  refine V_invFU (M' := mJ1_lastKey) (As := []) (rest := []) (C0 := "java/util/TreeMap") (J := "java/util/SortedMap") (x := ⟨"java/util/NavigableMap", "lastKey", "()Ljava/lang/Object;"⟩) okmJ1_lastKey (show OkX "java/util/NavigableMap" ⟨"java/util/NavigableMap", "lastKey", "()Ljava/lang/Object;"⟩ 0 from ⟨by decide +kernel, by decide +kernel, by decide +kernel⟩) (by decide +kernel) dJ6_last_4 fq563 q2074 (by decide +kernel) (List.mem_append_left _ q2073) (List.mem_append_left _ q2072) (List.mem_append_right _ fq562) (List.mem_append_left _ q2077) (List.mem_append_left _ q2075) (List.mem_append_left _ q413) rfl rfl (clsE.c ha) rfl rfl (Nat.le_of_ble_eq_true rfl) (d' := 1) (b1 := 0) (by first | decide | omega) (by first | decide | omega) (c_J1_lastKey ha hn ?_)
  exact V_aret dJ6_last_9 rfl rfl (Or.inr ⟨_, rfl⟩) (by exact K')
theorem c_J6_floor (ht : h ts = some (oO 28 [.ref a])) (ha : h a = some (cTM a n ad K W cmp mc)) (hk : ∀ i, i < n → cmpOk E h cmp key (K i) (c i)) (hs : Srt n c) (K0 : (∀ i, i < n → c i < 0) → Q .null h) (K1 : ∀ i, i < n → 0 ≤ c i → (∀ j, i < j → j < n → c j < 0) → Q (.ref (K i)) h) : V E mJ6_floor 7 0 0 [some (.ref ts), some (.ref key)] [] h Q X := by
  refine V_aload_n dJ6_floor_0 rfl ?_
  refine V_getf okJ6 0 dJ6_floor_1 q324 (by decide) ht rfl ?_
  refine V_aload_n dJ6_floor_4 rfl ?_
  refine V_invF (M' := mJ1_floorKey) (As := [.ref key]) (rest := []) (C0 := "java/util/TreeMap") (x := ⟨"java/util/NavigableMap", "floorKey", "(Ljava/lang/Object;)Ljava/lang/Object;"⟩) okmJ1_floorKey (show OkX "java/util/NavigableMap" ⟨"java/util/NavigableMap", "floorKey", "(Ljava/lang/Object;)Ljava/lang/Object;"⟩ 1 from ⟨by decide +kernel, by decide +kernel, by decide +kernel⟩) dJ6_floor_5 q2179 q2182 (List.mem_append_left _ q2181) (List.mem_append_left _ q2180) (List.mem_append_left _ q2185) (List.mem_append_left _ q2183) (List.mem_append_left _ q413) rfl rfl (clsE.c ha) rfl rfl (Nat.le_of_ble_eq_true rfl) (d' := 6) (b1 := 0) (by first | decide | omega) (by first | decide | omega) (c_J1_floorKey ha hk hs (fun z => ?_) (fun i hi z1 z2 => ?_))
  · exact V_aret dJ6_floor_10 rfl rfl (Or.inl rfl) (K0 z)
  · exact V_aret dJ6_floor_10 rfl rfl (Or.inr ⟨_, rfl⟩) (K1 i hi z1 z2)
end TM18
