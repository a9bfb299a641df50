/-! TREES: put -/
def t1 : TT := fun k _ => if k = 3 ∨ k = 4 then some 0 else none
theorem Tsh_t1 : Tsh 1 t1 (fun _ => 0) (fun _ => 1) := by
  refine ⟨by simp [t1], fun r hr => ?_, fun i hi => ?_⟩
  · simp [t1] at hr; subst hr; simp [t1]
  · have : i = 0 := by omega
    subst this
    simp [Tn, t1]
section TM11
variable {E : Ev} {a n i p r x key w : Nat} {h hh : AH} {Q : Value → AH → Prop} {X : Nat → AH → Prop} {ad K W : Nat → Nat} {vs cmp nk : Value} {sz mc : Int} {T : TT} {lo hi : Nat → Nat} {c : Nat → Int} {z0 : Int}
theorem TH_one (P : TH h a 0 ad K W vs cmp nk sz mc hh T) (hx : hh x = none) (hx2 : h x = none) (hxa : x ≠ a) :
    TH h a 1 (insF 0 x ad) (insF 0 key K) (insF 0 w W) vs cmp nk 1 (mc + 1) (hset (hset hh x (oO 16 [.ref key, .ref w, .null, .null, .null, vI 1])) a (oO 15 [.null, vs, cmp, .ref x, vI 1, vI (mc + 1), .null, nk, .null])) t1 := by
  obtain ⟨p1, p2, p3, p4, p5, p6⟩ := P
  refine ⟨⟨(p1.1.set (Or.inr hx2)).set (Or.inl (by rw [hset_ne (fun e => hxa e.symm), p2]; simp)), (p1.2.new hx).old ((hset_ne (fun e => hxa e.symm)).trans p2) rfl rfl⟩, ?_, fun i hi => ?_, fun i j hi hj e => by omega, fun k i j hk hi e => ?_, fun j e => ?_⟩
  · rw [hset_eq]; simp [tmO, t1, insF]; rfl
  · have : i = 0 := by omega
    subst this
    rw [insF_eq, hset_ne hxa, hset_eq]
    unfold eC
    simp only [insF_eq]
    simp [t1]
    rfl
  · have : k = 0 ∨ k = 1 ∨ k = 2 := by omega
    rcases this with rfl | rfl | rfl <;> simp [t1] at e
  · simp [t1] at e; omega
theorem c_J1_addEntryToEmptyMap {b : Nat} (P : TH h a 0 ad K W vs cmp nk (0 : Nat) mc hh T) (h0k : cmpOk E (ovl h a hh) cmp key key z0) (hb : 7 ≤ b) (K' : ∀ x, h x = none → KQ h a 1 (insF 0 x ad) (insF 0 key K) (insF 0 w W) vs cmp nk (0 : Nat) mc Q) : V E mJ1_addEntryToEmptyMap 5 b 0 [some (.ref a), some (.ref key), some (.ref w)] [] (ovl h a hh) Q X := by
  have hr : T 3 0 = none := by
    cases e : T 3 0 with
    | none => rfl
    | some r => exact absurd (P.2.2.2.2.2 r e) (Nat.not_lt_zero r)
  have ob : ovl h a hh a = some (oO 15 [.null, vs, cmp, .null, vI 0, vI mc, .null, nk, .null]) := by rw [P.ob]; simp only [tmO, hr]; rfl
  refine V_aload_n dJ1_addEntryToEmptyMap_0 rfl ?_
  refine V_aload_n dJ1_addEntryToEmptyMap_1 rfl ?_
  refine V_aload_n dJ1_addEntryToEmptyMap_2 rfl ?_
  refine V_invVc (M' := mJ1_compare) (As := [.ref key, .ref key]) (rest := []) okJ1_compare dJ1_addEntryToEmptyMap_3 q427 rfl rfl (clsE.o ob) rfl rfl (Nat.le_of_ble_eq_true rfl) (d' := 4) (b1 := 0) (by first | decide | omega) (by first | decide | omega) (c_J1_compare ob h0k ?_)
  refine V_pop dJ1_addEntryToEmptyMap_6 rfl ?_
  refine V_aload_n dJ1_addEntryToEmptyMap_7 rfl ?_
  refine V_new okJ16 dJ1_addEntryToEmptyMap_8 q645 q646 q118 (by decide) (by first | decide | omega) (fun x hx => ?_)
  refine V_dup dJ1_addEntryToEmptyMap_11 rfl ?_
  refine V_aload_n dJ1_addEntryToEmptyMap_12 rfl ?_
  refine V_aload_n dJ1_addEntryToEmptyMap_13 rfl ?_
  refine V_null dJ1_addEntryToEmptyMap_14 ?_
  refine V_invI (M' := mJ16_init) (As := [.ref key, .ref w, .null]) (rest := [.ref x, .ref a]) okJ16_init dJ1_addEntryToEmptyMap_15 q647 rfl rfl rfl (Nat.le_of_ble_eq_true rfl) (d' := 1) (b1 := 0) (by first | decide | omega) (by first | decide | omega) (c_J16_init (v3 := .null) isR.nn hset_eq ?_)
  refine V_heq hset_hset ?_
  refine V_putfE (fs' := [.null, vs, cmp, .ref x, vI 0, vI mc, .null, nk, .null]) okJ1 3 dJ1_addEntryToEmptyMap_18 q190 (by decide) rfl ((hset_ne (ne_f ob hx)).trans ob) (by decide) (Nat.le_of_ble_eq_true rfl) rfl rfl rfl rfl ?_
  refine V_aload_n dJ1_addEntryToEmptyMap_21 rfl ?_
  refine V_iconst dJ1_addEntryToEmptyMap_22 ?_
  refine V_putfE (fs' := [.null, vs, cmp, .ref x, vI 1, vI mc, .null, nk, .null]) okJ1 4 dJ1_addEntryToEmptyMap_23 q191 (by decide) rfl hset_eq (by decide) (Nat.le_of_ble_eq_true rfl) rfl rfl rfl hset_hset ?_
  refine V_aload_n dJ1_addEntryToEmptyMap_26 rfl ?_
  refine V_dup dJ1_addEntryToEmptyMap_27 rfl ?_
  refine V_getf okJ1 5 dJ1_addEntryToEmptyMap_28 q192 (by decide) hset_eq rfl ?_
  refine V_iconst dJ1_addEntryToEmptyMap_31 ?_
  refine V_iadd dJ1_addEntryToEmptyMap_32 ?_
  refine V_putfE (fs' := [.null, vs, cmp, .ref x, vI 1, vI (mc + 1), .null, nk, .null]) okJ1 5 dJ1_addEntryToEmptyMap_33 q192 (by decide) rfl hset_eq (by decide) (Nat.le_of_ble_eq_true rfl) rfl rfl rfl hset_hset ?_
  simp only [ovl_set]
  exact V_vret dJ1_addEntryToEmptyMap_36 rfl (by exact K' x (ovl_none hx P.2.1).2.1 _ _ _ _ (TH_one P (ovl_none hx P.2.1).1 (ovl_none hx P.2.1).2.1 (ovl_none hx P.2.1).2.2) Tsh_t1 (fun r hr => by simp [t1]))
abbrev KPut (h : AH) (a n : Nat) (ad K W : Nat → Nat) (vs cmp nk : Value) (mc : Int) (key w : Nat) (c : Nat → Int) (Q : Value → AH → Prop) : Prop := ∀ (x j : Nat), h x = none → j ≤ n → (∀ i, i < j → 0 < c i) → (∀ i, j ≤ i → i < n → c i < 0) → KQ h a (n + 1) (insF j x ad) (insF j key K) (insF j w W) vs cmp nk n mc Q
theorem put_E {b : Nat} {l3 l4 l7 l8 l9 : Option Value} (P : TH h a n ad K W vs cmp nk n mc hh T) (S : Tsh n T lo hi) (hp : p < n) (RB : ∀ r, T 3 0 = some r → T 4 r ≠ none) (hb : 7 ≤ b) (hi0 : inr (c p)) (hlo : ∀ j, j < lo p → 0 < c j) (hhi : ∀ j, hi p ≤ j → j < n → c j < 0) (hs : Srt n c) (hz : c p < 0 ∧ T 0 p = none ∨ 0 < c p ∧ T 1 p = none) (K' : KPut h a n ad K W vs cmp nk mc key w c Q) : V E mJ1_put_2 5 b 201 [some (.ref a), some (.ref key), some (.ref w), l3, l4, some (vI (c p)), some (.ref (ad p)), l7, l8, l9] [] (ovl h a hh) Q X := by
  obtain ⟨a1, a2, a3, a4, a5, a6, a7, a8, a9⟩ := S.2.2 p hp
  rcases hz with ⟨hz, h0⟩ | ⟨hz, h0⟩
  · have e := a4 h0
    refine V_aload_n dJ1_put_2_201 rfl ?_
    refine V_aload_n dJ1_put_2_202 rfl ?_
    refine V_aload_n dJ1_put_2_203 rfl ?_
    refine V_aload dJ1_put_2_204 rfl ?_
    refine V_iload dJ1_put_2_206 rfl ?_
    refine V_if_ge 215 dJ1_put_2_208 (by decide) (by exact hi0) (fun c_208 => by exfalso; omega) (fun c_208 => ?_)
    refine V_iconst dJ1_put_2_211 ?_
    refine V_goto 216 dJ1_put_2_212 (by decide) ?_
    refine V_invVc (M' := mJ1_addEntry) (As := [.ref key, .ref w, .ref (ad p), vI 1]) (rest := []) okJ1_addEntry dJ1_put_2_216 q682 rfl rfl (clsE.o P.ob) rfl rfl (Nat.le_of_ble_eq_true rfl) (d' := 2) (b1 := b) (by first | decide | omega) (by first | decide | omega) (c_J1_addEntry P S hp RB (by omega) (Or.inl ⟨rfl, h0⟩) (fun _ x hx hh' T' lo' hi' P' S' R' => ?_) (fun z => absurd z (by decide)))
    exact V_null dJ1_put_2_219 (V_aret dJ1_put_2_220 rfl rfl (Or.inl rfl) (K' x p hx (Nat.le_of_lt hp) (fun j hj => hlo j (by omega)) (fun j h1 h2 => by rcases Nat.lt_or_ge p j with z | z; exact Int.not_le.mp (fun z9 => absurd (hs p j z h2 z9) (by omega)); have : j = p := (by omega); subst this; exact hz) hh' T' lo' hi' P' S' R'))
  · have e := a6 h0
    refine V_aload_n dJ1_put_2_201 rfl ?_
    refine V_aload_n dJ1_put_2_202 rfl ?_
    refine V_aload_n dJ1_put_2_203 rfl ?_
    refine V_aload dJ1_put_2_204 rfl ?_
    refine V_iload dJ1_put_2_206 rfl ?_
    refine V_if_ge 215 dJ1_put_2_208 (by decide) (by exact hi0) (fun c_208 => ?_) (fun c_208 => by exfalso; omega)
    refine V_iconst dJ1_put_2_215 ?_
    refine V_invVc (M' := mJ1_addEntry) (As := [.ref key, .ref w, .ref (ad p), vI 0]) (rest := []) okJ1_addEntry dJ1_put_2_216 q682 rfl rfl (clsE.o P.ob) rfl rfl (Nat.le_of_ble_eq_true rfl) (d' := 2) (b1 := b) (by first | decide | omega) (by first | decide | omega) (c_J1_addEntry P S hp RB (by omega) (Or.inr ⟨rfl, h0⟩) (fun z => absurd z (by decide)) (fun _ x hx hh' T' lo' hi' P' S' R' => ?_))
    exact V_null dJ1_put_2_219 (V_aret dJ1_put_2_220 rfl rfl (Or.inl rfl) (K' x (p + 1) hx hp (fun j hj => by rcases Nat.lt_or_ge j p with z | z; exact hs j p z hp (by omega); have : j = p := (by omega); subst this; exact hz) (fun j h1 h2 => hhi j (by omega) h2) hh' T' lo' hi' P' S' R'))
theorem c_cmpX {cc k1 k2 : Nat} {z : Int} (hk : cmpOk E h (.ref cc) k1 k2 z) (K : Q (vI z) h) : V E mX5_compare 3 0 0 [some (.ref cc), some (.ref k1), some (.ref k2)] [] h Q X := by
  rcases hk with ⟨e, -⟩ | ⟨c', e, hc, n1, t1, n2, t2, f1, f2, h1, h2, i1, i2, i3, i4, rfl⟩
  · cases e
  · cases e
    exact c_X5_compare hc h1 h2 i1 i2 i3 i4 K
theorem c_cmpI {k1 k2 : Nat} {z : Int} (hk : cmpOk E h .null k1 k2 z) (K : Q (vI z) h) : V E mJ8_compareTo 3 0 0 [some (.ref k1), some (.ref k2)] [] h Q X := by
  rcases hk with ⟨-, x, y, hx, hy, rfl, rfl, rfl⟩ | ⟨c', e, -⟩
  · exact c_J8_compareTo hx hy K
  · cases e
theorem putC_L {b : Nat} {l3 l8x l9 : Option Value} {cc : Nat} (hc : ovl h a hh cc = some (oO 29 [])) (P : TH h a n ad K W vs (.ref cc) nk n mc hh T) (S : Tsh n T lo hi) (RB : ∀ r, T 3 0 = some r → T 4 r ≠ none) (hk : ∀ i, i < n → cmpOk E (ovl h a hh) (.ref cc) key (K i) (c i)) (hs : Srt n c) (hne : ∀ i, i < n → c i ≠ 0) (hb : 7 ≤ b) (K' : KPut h a n ad K W vs (.ref cc) nk mc key w c Q) : ∀ (m p : Nat) (l5 l6 : Option Value), hi p - lo p ≤ m → p < n → (∀ j, j < lo p → 0 < c j) → (∀ j, hi p ≤ j → j < n → c j < 0) → V E mJ1_put_2 5 b 30 [some (.ref a), some (.ref key), some (.ref w), l3, some (.ref (ad p)), l5, l6, some (.ref cc), l8x, l9] [] (ovl h a hh) Q X := by
  intro m
  induction m with
  | zero =>
    intro p l5 l6 hm hp
    obtain ⟨a1, a2, -⟩ := S.2.2 p hp
    omega
  | succ m ih =>
    intro p l5 l6 hm hp hlo hhi
    obtain ⟨a1, a2, a3, a4, a5, a6, a7, a8, a9⟩ := S.2.2 p hp
    have ic := (hk p hp).inr
    have n0 := hne p hp
    rcases hl : T 0 p with _ | q <;> rcases hr : T 1 p with _ | q'
    · refine V_aload dJ1_put_2_30 rfl ?_
      refine V_astore dJ1_put_2_32 (by decide) ?_
      refine V_aload dJ1_put_2_34 rfl ?_
      refine V_aload_n dJ1_put_2_36 rfl ?_
      refine V_aload dJ1_put_2_37 rfl ?_
      refine V_getf okJ16 0 dJ1_put_2_39 q656 (by decide) (P.en hp) rfl ?_
      refine V_invF (M' := mX5_compare) (As := [.ref key, .ref (K p)]) (rest := []) (C0 := "SignalWaves$ByBegin") (x := ⟨"java/util/Comparator", "compare", "(Ljava/lang/Object;Ljava/lang/Object;)I"⟩) okmX5_compare (show OkX "java/util/Comparator" ⟨"java/util/Comparator", "compare", "(Ljava/lang/Object;Ljava/lang/Object;)I"⟩ 2 from ⟨by decide +kernel, by decide +kernel, by decide +kernel⟩) dJ1_put_2_42 q630 q634 (List.mem_append_left _ q632) (List.mem_append_left _ q631) (List.mem_append_left _ q637) (List.mem_append_left _ q635) (List.mem_append_left _ q633) rfl rfl (clsE.o hc) rfl rfl (Nat.le_of_ble_eq_true rfl) (d' := 3) (b1 := 0) (by first | decide | omega) (by first | decide | omega) (c_cmpX (hk p hp) ?_)
      refine V_istore dJ1_put_2_47 (by decide) ?_
      refine V_iload dJ1_put_2_49 rfl ?_
      refine V_if_ge 64 dJ1_put_2_51 (by decide) (by first | exact ic | decide) (fun c_51 => ?_) (fun c_51 => ?_)
      · refine V_iload dJ1_put_2_64 rfl ?_
        refine V_if_le 79 dJ1_put_2_66 (by decide) (by first | exact ic | decide) (fun c_66 => by exfalso; omega) (fun c_66 => ?_)
        refine V_aload dJ1_put_2_69 rfl ?_
        refine VT_get 1 (by decide) P hp dJ1_put_2_71 q661 (o := none) hr ?_
        refine V_astoreN dJ1_put_2_74 (by decide) ?_
        refine V_goto 104 dJ1_put_2_76 (by decide) ?_
        refine V_aloadN dJ1_put_2_104 rfl ?_
        refine V_ifnonnullN dJ1_put_2_106 ?_
        refine V_goto 201 dJ1_put_2_109 (by decide) ?_
        first | exact put_E P S hp RB (by omega) ic hlo hhi hs (Or.inl ⟨by omega, hl⟩) K' | exact put_E P S hp RB (by omega) ic hlo hhi hs (Or.inr ⟨by omega, hr⟩) K'
      · refine V_aload dJ1_put_2_54 rfl ?_
        refine VT_get 0 (by decide) P hp dJ1_put_2_56 q660 (o := none) hl ?_
        refine V_astoreN dJ1_put_2_59 (by decide) ?_
        refine V_goto 104 dJ1_put_2_61 (by decide) ?_
        refine V_aloadN dJ1_put_2_104 rfl ?_
        refine V_ifnonnullN dJ1_put_2_106 ?_
        refine V_goto 201 dJ1_put_2_109 (by decide) ?_
        first | exact put_E P S hp RB (by omega) ic hlo hhi hs (Or.inl ⟨by omega, hl⟩) K' | exact put_E P S hp RB (by omega) ic hlo hhi hs (Or.inr ⟨by omega, hr⟩) K'
    · obtain ⟨y1, y2, y3, y4, y5⟩ := a7 q' hr
      refine V_aload dJ1_put_2_30 rfl ?_
      refine V_astore dJ1_put_2_32 (by decide) ?_
      refine V_aload dJ1_put_2_34 rfl ?_
      refine V_aload_n dJ1_put_2_36 rfl ?_
      refine V_aload dJ1_put_2_37 rfl ?_
      refine V_getf okJ16 0 dJ1_put_2_39 q656 (by decide) (P.en hp) rfl ?_
      refine V_invF (M' := mX5_compare) (As := [.ref key, .ref (K p)]) (rest := []) (C0 := "SignalWaves$ByBegin") (x := ⟨"java/util/Comparator", "compare", "(Ljava/lang/Object;Ljava/lang/Object;)I"⟩) okmX5_compare (show OkX "java/util/Comparator" ⟨"java/util/Comparator", "compare", "(Ljava/lang/Object;Ljava/lang/Object;)I"⟩ 2 from ⟨by decide +kernel, by decide +kernel, by decide +kernel⟩) dJ1_put_2_42 q630 q634 (List.mem_append_left _ q632) (List.mem_append_left _ q631) (List.mem_append_left _ q637) (List.mem_append_left _ q635) (List.mem_append_left _ q633) rfl rfl (clsE.o hc) rfl rfl (Nat.le_of_ble_eq_true rfl) (d' := 3) (b1 := 0) (by first | decide | omega) (by first | decide | omega) (c_cmpX (hk p hp) ?_)
      refine V_istore dJ1_put_2_47 (by decide) ?_
      refine V_iload dJ1_put_2_49 rfl ?_
      refine V_if_ge 64 dJ1_put_2_51 (by decide) (by first | exact ic | decide) (fun c_51 => ?_) (fun c_51 => ?_)
      · refine V_iload dJ1_put_2_64 rfl ?_
        refine V_if_le 79 dJ1_put_2_66 (by decide) (by first | exact ic | decide) (fun c_66 => by exfalso; omega) (fun c_66 => ?_)
        refine V_aload dJ1_put_2_69 rfl ?_
        refine VT_get 1 (by decide) P hp dJ1_put_2_71 q661 (o := some q') hr ?_
        refine V_astore dJ1_put_2_74 (by decide) ?_
        refine V_goto 104 dJ1_put_2_76 (by decide) ?_
        refine V_aload dJ1_put_2_104 rfl ?_
        refine V_ifnonnull 30 dJ1_put_2_106 (by decide) ?_
        first | exact ih q' _ _ (by omega) y2 (fun j hj => by rcases Nat.lt_or_ge j p with z | z; exact hs j p z hp (by omega); have : j = p := (by omega); subst this; omega) (fun j z1 z2 => hhi j (by omega) z2)
      · refine V_aload dJ1_put_2_54 rfl ?_
        refine VT_get 0 (by decide) P hp dJ1_put_2_56 q660 (o := none) hl ?_
        refine V_astoreN dJ1_put_2_59 (by decide) ?_
        refine V_goto 104 dJ1_put_2_61 (by decide) ?_
        refine V_aloadN dJ1_put_2_104 rfl ?_
        refine V_ifnonnullN dJ1_put_2_106 ?_
        refine V_goto 201 dJ1_put_2_109 (by decide) ?_
        first | exact put_E P S hp RB (by omega) ic hlo hhi hs (Or.inl ⟨by omega, hl⟩) K'
    · obtain ⟨x1, x3, x4, x5⟩ := a5 q hl
      refine V_aload dJ1_put_2_30 rfl ?_
      refine V_astore dJ1_put_2_32 (by decide) ?_
      refine V_aload dJ1_put_2_34 rfl ?_
      refine V_aload_n dJ1_put_2_36 rfl ?_
      refine V_aload dJ1_put_2_37 rfl ?_
      refine V_getf okJ16 0 dJ1_put_2_39 q656 (by decide) (P.en hp) rfl ?_
      refine V_invF (M' := mX5_compare) (As := [.ref key, .ref (K p)]) (rest := []) (C0 := "SignalWaves$ByBegin") (x := ⟨"java/util/Comparator", "compare", "(Ljava/lang/Object;Ljava/lang/Object;)I"⟩) okmX5_compare (show OkX "java/util/Comparator" ⟨"java/util/Comparator", "compare", "(Ljava/lang/Object;Ljava/lang/Object;)I"⟩ 2 from ⟨by decide +kernel, by decide +kernel, by decide +kernel⟩) dJ1_put_2_42 q630 q634 (List.mem_append_left _ q632) (List.mem_append_left _ q631) (List.mem_append_left _ q637) (List.mem_append_left _ q635) (List.mem_append_left _ q633) rfl rfl (clsE.o hc) rfl rfl (Nat.le_of_ble_eq_true rfl) (d' := 3) (b1 := 0) (by first | decide | omega) (by first | decide | omega) (c_cmpX (hk p hp) ?_)
      refine V_istore dJ1_put_2_47 (by decide) ?_
      refine V_iload dJ1_put_2_49 rfl ?_
      refine V_if_ge 64 dJ1_put_2_51 (by decide) (by first | exact ic | decide) (fun c_51 => ?_) (fun c_51 => ?_)
      · refine V_iload dJ1_put_2_64 rfl ?_
        refine V_if_le 79 dJ1_put_2_66 (by decide) (by first | exact ic | decide) (fun c_66 => by exfalso; omega) (fun c_66 => ?_)
        refine V_aload dJ1_put_2_69 rfl ?_
        refine VT_get 1 (by decide) P hp dJ1_put_2_71 q661 (o := none) hr ?_
        refine V_astoreN dJ1_put_2_74 (by decide) ?_
        refine V_goto 104 dJ1_put_2_76 (by decide) ?_
        refine V_aloadN dJ1_put_2_104 rfl ?_
        refine V_ifnonnullN dJ1_put_2_106 ?_
        refine V_goto 201 dJ1_put_2_109 (by decide) ?_
        first | exact put_E P S hp RB (by omega) ic hlo hhi hs (Or.inr ⟨by omega, hr⟩) K'
      · refine V_aload dJ1_put_2_54 rfl ?_
        refine VT_get 0 (by decide) P hp dJ1_put_2_56 q660 (o := some q) hl ?_
        refine V_astore dJ1_put_2_59 (by decide) ?_
        refine V_goto 104 dJ1_put_2_61 (by decide) ?_
        refine V_aload dJ1_put_2_104 rfl ?_
        refine V_ifnonnull 30 dJ1_put_2_106 (by decide) ?_
        first | exact ih q _ _ (by omega) (by omega) (fun j hj => hlo j (by omega)) (fun j z1 z2 => by rcases Nat.lt_or_ge p j with z | z; exact Int.not_le.mp (fun z9 => absurd (hs p j z z2 z9) (by omega)); have : j = p := (by omega); subst this; omega)
    · obtain ⟨y1, y2, y3, y4, y5⟩ := a7 q' hr
      obtain ⟨x1, x3, x4, x5⟩ := a5 q hl
      refine V_aload dJ1_put_2_30 rfl ?_
      refine V_astore dJ1_put_2_32 (by decide) ?_
      refine V_aload dJ1_put_2_34 rfl ?_
      refine V_aload_n dJ1_put_2_36 rfl ?_
      refine V_aload dJ1_put_2_37 rfl ?_
      refine V_getf okJ16 0 dJ1_put_2_39 q656 (by decide) (P.en hp) rfl ?_
      refine V_invF (M' := mX5_compare) (As := [.ref key, .ref (K p)]) (rest := []) (C0 := "SignalWaves$ByBegin") (x := ⟨"java/util/Comparator", "compare", "(Ljava/lang/Object;Ljava/lang/Object;)I"⟩) okmX5_compare (show OkX "java/util/Comparator" ⟨"java/util/Comparator", "compare", "(Ljava/lang/Object;Ljava/lang/Object;)I"⟩ 2 from ⟨by decide +kernel, by decide +kernel, by decide +kernel⟩) dJ1_put_2_42 q630 q634 (List.mem_append_left _ q632) (List.mem_append_left _ q631) (List.mem_append_left _ q637) (List.mem_append_left _ q635) (List.mem_append_left _ q633) rfl rfl (clsE.o hc) rfl rfl (Nat.le_of_ble_eq_true rfl) (d' := 3) (b1 := 0) (by first | decide | omega) (by first | decide | omega) (c_cmpX (hk p hp) ?_)
      refine V_istore dJ1_put_2_47 (by decide) ?_
      refine V_iload dJ1_put_2_49 rfl ?_
      refine V_if_ge 64 dJ1_put_2_51 (by decide) (by first | exact ic | decide) (fun c_51 => ?_) (fun c_51 => ?_)
      · refine V_iload dJ1_put_2_64 rfl ?_
        refine V_if_le 79 dJ1_put_2_66 (by decide) (by first | exact ic | decide) (fun c_66 => by exfalso; omega) (fun c_66 => ?_)
        refine V_aload dJ1_put_2_69 rfl ?_
        refine VT_get 1 (by decide) P hp dJ1_put_2_71 q661 (o := some q') hr ?_
        refine V_astore dJ1_put_2_74 (by decide) ?_
        refine V_goto 104 dJ1_put_2_76 (by decide) ?_
        refine V_aload dJ1_put_2_104 rfl ?_
        refine V_ifnonnull 30 dJ1_put_2_106 (by decide) ?_
        first | exact ih q' _ _ (by omega) y2 (fun j hj => by rcases Nat.lt_or_ge j p with z | z; exact hs j p z hp (by omega); have : j = p := (by omega); subst this; omega) (fun j z1 z2 => hhi j (by omega) z2) | exact ih q _ _ (by omega) (by omega) (fun j hj => hlo j (by omega)) (fun j z1 z2 => by rcases Nat.lt_or_ge p j with z | z; exact Int.not_le.mp (fun z9 => absurd (hs p j z z2 z9) (by omega)); have : j = p := (by omega); subst this; omega)
      · refine V_aload dJ1_put_2_54 rfl ?_
        refine VT_get 0 (by decide) P hp dJ1_put_2_56 q660 (o := some q) hl ?_
        refine V_astore dJ1_put_2_59 (by decide) ?_
        refine V_goto 104 dJ1_put_2_61 (by decide) ?_
        refine V_aload dJ1_put_2_104 rfl ?_
        refine V_ifnonnull 30 dJ1_put_2_106 (by decide) ?_
        first | exact ih q' _ _ (by omega) y2 (fun j hj => by rcases Nat.lt_or_ge j p with z | z; exact hs j p z hp (by omega); have : j = p := (by omega); subst this; omega) (fun j z1 z2 => hhi j (by omega) z2) | exact ih q _ _ (by omega) (by omega) (fun j hj => hlo j (by omega)) (fun j z1 z2 => by rcases Nat.lt_or_ge p j with z | z; exact Int.not_le.mp (fun z9 => absurd (hs p j z z2 z9) (by omega)); have : j = p := (by omega); subst this; omega)
theorem putI_L {b : Nat} {l3 l7 l9 : Option Value} {x : Int} (hx : -128 ≤ x ∧ x ≤ 127) (hkx : key = iA E x) (P : TH h a n ad K W vs .null nk n mc hh T) (S : Tsh n T lo hi) (RB : ∀ r, T 3 0 = some r → T 4 r ≠ none) (hk : ∀ i, i < n → cmpOk E (ovl h a hh) .null key (K i) (c i)) (hs : Srt n c) (hne : ∀ i, i < n → c i ≠ 0) (hb : 7 ≤ b) (K' : KPut h a n ad K W vs .null nk mc key w c Q) : ∀ (m p : Nat) (l5 l6 : Option Value), hi p - lo p ≤ m → p < n → (∀ j, j < lo p → 0 < c j) → (∀ j, hi p ≤ j → j < n → c j < 0) → V E mJ1_put_2 5 b 123 [some (.ref a), some (.ref key), some (.ref w), l3, some (.ref (ad p)), l5, l6, l7, some (.ref key), l9] [] (ovl h a hh) Q X := by
  intro m
  induction m with
  | zero =>
    intro p l5 l6 hm hp
    obtain ⟨a1, a2, -⟩ := S.2.2 p hp
    omega
  | succ m ih =>
    intro p l5 l6 hm hp hlo hhi
    obtain ⟨a1, a2, a3, a4, a5, a6, a7, a8, a9⟩ := S.2.2 p hp
    have ic := (hk p hp).inr
    have n0 := hne p hp
    rcases hl : T 0 p with _ | q <;> rcases hr : T 1 p with _ | q'
    · refine V_aload dJ1_put_2_123 rfl ?_
      refine V_astore dJ1_put_2_125 (by decide) ?_
      refine V_aload dJ1_put_2_127 rfl ?_
      refine V_aload dJ1_put_2_129 rfl ?_
      refine V_getf okJ16 0 dJ1_put_2_131 q656 (by decide) (P.en hp) rfl ?_
      refine V_invF (M' := mJ8_compareTo) (As := [.ref (K p)]) (rest := []) (C0 := "java/lang/Integer") (x := ⟨"java/lang/Comparable", "compareTo", "(Ljava/lang/Object;)I"⟩) okmJ8_compareTo (show OkX "java/lang/Comparable" ⟨"java/lang/Comparable", "compareTo", "(Ljava/lang/Object;)I"⟩ 1 from ⟨by decide +kernel, by decide +kernel, by decide +kernel⟩) dJ1_put_2_134 q433 q451 (List.mem_append_left _ q435) (List.mem_append_left _ q434) (List.mem_append_left _ q454) (List.mem_append_left _ q452) (List.mem_append_left _ q450) rfl rfl (Or.inr ⟨_, (hkx ▸ cst.int hx.1 hx.2)⟩) rfl rfl (Nat.le_of_ble_eq_true rfl) (d' := 3) (b1 := 0) (by first | decide | omega) (by first | decide | omega) (c_cmpI (hk p hp) ?_)
      refine V_istore dJ1_put_2_139 (by decide) ?_
      refine V_iload dJ1_put_2_141 rfl ?_
      refine V_if_ge 156 dJ1_put_2_143 (by decide) (by first | exact ic | decide) (fun c_143 => ?_) (fun c_143 => ?_)
      · refine V_iload dJ1_put_2_156 rfl ?_
        refine V_if_le 171 dJ1_put_2_158 (by decide) (by first | exact ic | decide) (fun c_158 => by exfalso; omega) (fun c_158 => ?_)
        refine V_aload dJ1_put_2_161 rfl ?_
        refine VT_get 1 (by decide) P hp dJ1_put_2_163 q661 (o := none) hr ?_
        refine V_astoreN dJ1_put_2_166 (by decide) ?_
        refine V_goto 196 dJ1_put_2_168 (by decide) ?_
        refine V_aloadN dJ1_put_2_196 rfl ?_
        refine V_ifnonnullN dJ1_put_2_198 ?_
        first | exact put_E P S hp RB (by omega) ic hlo hhi hs (Or.inl ⟨by omega, hl⟩) K' | exact put_E P S hp RB (by omega) ic hlo hhi hs (Or.inr ⟨by omega, hr⟩) K'
      · refine V_aload dJ1_put_2_146 rfl ?_
        refine VT_get 0 (by decide) P hp dJ1_put_2_148 q660 (o := none) hl ?_
        refine V_astoreN dJ1_put_2_151 (by decide) ?_
        refine V_goto 196 dJ1_put_2_153 (by decide) ?_
        refine V_aloadN dJ1_put_2_196 rfl ?_
        refine V_ifnonnullN dJ1_put_2_198 ?_
        first | exact put_E P S hp RB (by omega) ic hlo hhi hs (Or.inl ⟨by omega, hl⟩) K' | exact put_E P S hp RB (by omega) ic hlo hhi hs (Or.inr ⟨by omega, hr⟩) K'
    · obtain ⟨y1, y2, y3, y4, y5⟩ := a7 q' hr
      refine V_aload dJ1_put_2_123 rfl ?_
      refine V_astore dJ1_put_2_125 (by decide) ?_
      refine V_aload dJ1_put_2_127 rfl ?_
      refine V_aload dJ1_put_2_129 rfl ?_
      refine V_getf okJ16 0 dJ1_put_2_131 q656 (by decide) (P.en hp) rfl ?_
      refine V_invF (M' := mJ8_compareTo) (As := [.ref (K p)]) (rest := []) (C0 := "java/lang/Integer") (x := ⟨"java/lang/Comparable", "compareTo", "(Ljava/lang/Object;)I"⟩) okmJ8_compareTo (show OkX "java/lang/Comparable" ⟨"java/lang/Comparable", "compareTo", "(Ljava/lang/Object;)I"⟩ 1 from ⟨by decide +kernel, by decide +kernel, by decide +kernel⟩) dJ1_put_2_134 q433 q451 (List.mem_append_left _ q435) (List.mem_append_left _ q434) (List.mem_append_left _ q454) (List.mem_append_left _ q452) (List.mem_append_left _ q450) rfl rfl (Or.inr ⟨_, (hkx ▸ cst.int hx.1 hx.2)⟩) rfl rfl (Nat.le_of_ble_eq_true rfl) (d' := 3) (b1 := 0) (by first | decide | omega) (by first | decide | omega) (c_cmpI (hk p hp) ?_)
      refine V_istore dJ1_put_2_139 (by decide) ?_
      refine V_iload dJ1_put_2_141 rfl ?_
      refine V_if_ge 156 dJ1_put_2_143 (by decide) (by first | exact ic | decide) (fun c_143 => ?_) (fun c_143 => ?_)
      · refine V_iload dJ1_put_2_156 rfl ?_
        refine V_if_le 171 dJ1_put_2_158 (by decide) (by first | exact ic | decide) (fun c_158 => by exfalso; omega) (fun c_158 => ?_)
        refine V_aload dJ1_put_2_161 rfl ?_
        refine VT_get 1 (by decide) P hp dJ1_put_2_163 q661 (o := some q') hr ?_
        refine V_astore dJ1_put_2_166 (by decide) ?_
        refine V_goto 196 dJ1_put_2_168 (by decide) ?_
        refine V_aload dJ1_put_2_196 rfl ?_
        refine V_ifnonnull 123 dJ1_put_2_198 (by decide) ?_
        first | exact ih q' _ _ (by omega) y2 (fun j hj => by rcases Nat.lt_or_ge j p with z | z; exact hs j p z hp (by omega); have : j = p := (by omega); subst this; omega) (fun j z1 z2 => hhi j (by omega) z2)
      · refine V_aload dJ1_put_2_146 rfl ?_
        refine VT_get 0 (by decide) P hp dJ1_put_2_148 q660 (o := none) hl ?_
        refine V_astoreN dJ1_put_2_151 (by decide) ?_
        refine V_goto 196 dJ1_put_2_153 (by decide) ?_
        refine V_aloadN dJ1_put_2_196 rfl ?_
        refine V_ifnonnullN dJ1_put_2_198 ?_
        first | exact put_E P S hp RB (by omega) ic hlo hhi hs (Or.inl ⟨by omega, hl⟩) K'
    · obtain ⟨x1, x3, x4, x5⟩ := a5 q hl
      refine V_aload dJ1_put_2_123 rfl ?_
      refine V_astore dJ1_put_2_125 (by decide) ?_
      refine V_aload dJ1_put_2_127 rfl ?_
      refine V_aload dJ1_put_2_129 rfl ?_
      refine V_getf okJ16 0 dJ1_put_2_131 q656 (by decide) (P.en hp) rfl ?_
      refine V_invF (M' := mJ8_compareTo) (As := [.ref (K p)]) (rest := []) (C0 := "java/lang/Integer") (x := ⟨"java/lang/Comparable", "compareTo", "(Ljava/lang/Object;)I"⟩) okmJ8_compareTo (show OkX "java/lang/Comparable" ⟨"java/lang/Comparable", "compareTo", "(Ljava/lang/Object;)I"⟩ 1 from ⟨by decide +kernel, by decide +kernel, by decide +kernel⟩) dJ1_put_2_134 q433 q451 (List.mem_append_left _ q435) (List.mem_append_left _ q434) (List.mem_append_left _ q454) (List.mem_append_left _ q452) (List.mem_append_left _ q450) rfl rfl (Or.inr ⟨_, (hkx ▸ cst.int hx.1 hx.2)⟩) rfl rfl (Nat.le_of_ble_eq_true rfl) (d' := 3) (b1 := 0) (by first | decide | omega) (by first | decide | omega) (c_cmpI (hk p hp) ?_)
      refine V_istore dJ1_put_2_139 (by decide) ?_
      refine V_iload dJ1_put_2_141 rfl ?_
      refine V_if_ge 156 dJ1_put_2_143 (by decide) (by first | exact ic | decide) (fun c_143 => ?_) (fun c_143 => ?_)
      · refine V_iload dJ1_put_2_156 rfl ?_
        refine V_if_le 171 dJ1_put_2_158 (by decide) (by first | exact ic | decide) (fun c_158 => by exfalso; omega) (fun c_158 => ?_)
        refine V_aload dJ1_put_2_161 rfl ?_
        refine VT_get 1 (by decide) P hp dJ1_put_2_163 q661 (o := none) hr ?_
        refine V_astoreN dJ1_put_2_166 (by decide) ?_
        refine V_goto 196 dJ1_put_2_168 (by decide) ?_
        refine V_aloadN dJ1_put_2_196 rfl ?_
        refine V_ifnonnullN dJ1_put_2_198 ?_
        first | exact put_E P S hp RB (by omega) ic hlo hhi hs (Or.inr ⟨by omega, hr⟩) K'
      · refine V_aload dJ1_put_2_146 rfl ?_
        refine VT_get 0 (by decide) P hp dJ1_put_2_148 q660 (o := some q) hl ?_
        refine V_astore dJ1_put_2_151 (by decide) ?_
        refine V_goto 196 dJ1_put_2_153 (by decide) ?_
        refine V_aload dJ1_put_2_196 rfl ?_
        refine V_ifnonnull 123 dJ1_put_2_198 (by decide) ?_
        first | exact ih q _ _ (by omega) (by omega) (fun j hj => hlo j (by omega)) (fun j z1 z2 => by rcases Nat.lt_or_ge p j with z | z; exact Int.not_le.mp (fun z9 => absurd (hs p j z z2 z9) (by omega)); have : j = p := (by omega); subst this; omega)
    · obtain ⟨y1, y2, y3, y4, y5⟩ := a7 q' hr
      obtain ⟨x1, x3, x4, x5⟩ := a5 q hl
      refine V_aload dJ1_put_2_123 rfl ?_
      refine V_astore dJ1_put_2_125 (by decide) ?_
      refine V_aload dJ1_put_2_127 rfl ?_
      refine V_aload dJ1_put_2_129 rfl ?_
      refine V_getf okJ16 0 dJ1_put_2_131 q656 (by decide) (P.en hp) rfl ?_
      refine V_invF (M' := mJ8_compareTo) (As := [.ref (K p)]) (rest := []) (C0 := "java/lang/Integer") (x := ⟨"java/lang/Comparable", "compareTo", "(Ljava/lang/Object;)I"⟩) okmJ8_compareTo (show OkX "java/lang/Comparable" ⟨"java/lang/Comparable", "compareTo", "(Ljava/lang/Object;)I"⟩ 1 from ⟨by decide +kernel, by decide +kernel, by decide +kernel⟩) dJ1_put_2_134 q433 q451 (List.mem_append_left _ q435) (List.mem_append_left _ q434) (List.mem_append_left _ q454) (List.mem_append_left _ q452) (List.mem_append_left _ q450) rfl rfl (Or.inr ⟨_, (hkx ▸ cst.int hx.1 hx.2)⟩) rfl rfl (Nat.le_of_ble_eq_true rfl) (d' := 3) (b1 := 0) (by first | decide | omega) (by first | decide | omega) (c_cmpI (hk p hp) ?_)
      refine V_istore dJ1_put_2_139 (by decide) ?_
      refine V_iload dJ1_put_2_141 rfl ?_
      refine V_if_ge 156 dJ1_put_2_143 (by decide) (by first | exact ic | decide) (fun c_143 => ?_) (fun c_143 => ?_)
      · refine V_iload dJ1_put_2_156 rfl ?_
        refine V_if_le 171 dJ1_put_2_158 (by decide) (by first | exact ic | decide) (fun c_158 => by exfalso; omega) (fun c_158 => ?_)
        refine V_aload dJ1_put_2_161 rfl ?_
        refine VT_get 1 (by decide) P hp dJ1_put_2_163 q661 (o := some q') hr ?_
        refine V_astore dJ1_put_2_166 (by decide) ?_
        refine V_goto 196 dJ1_put_2_168 (by decide) ?_
        refine V_aload dJ1_put_2_196 rfl ?_
        refine V_ifnonnull 123 dJ1_put_2_198 (by decide) ?_
        first | exact ih q' _ _ (by omega) y2 (fun j hj => by rcases Nat.lt_or_ge j p with z | z; exact hs j p z hp (by omega); have : j = p := (by omega); subst this; omega) (fun j z1 z2 => hhi j (by omega) z2) | exact ih q _ _ (by omega) (by omega) (fun j hj => hlo j (by omega)) (fun j z1 z2 => by rcases Nat.lt_or_ge p j with z | z; exact Int.not_le.mp (fun z9 => absurd (hs p j z z2 z9) (by omega)); have : j = p := (by omega); subst this; omega)
      · refine V_aload dJ1_put_2_146 rfl ?_
        refine VT_get 0 (by decide) P hp dJ1_put_2_148 q660 (o := some q) hl ?_
        refine V_astore dJ1_put_2_151 (by decide) ?_
        refine V_goto 196 dJ1_put_2_153 (by decide) ?_
        refine V_aload dJ1_put_2_196 rfl ?_
        refine V_ifnonnull 123 dJ1_put_2_198 (by decide) ?_
        first | exact ih q' _ _ (by omega) y2 (fun j hj => by rcases Nat.lt_or_ge j p with z | z; exact hs j p z hp (by omega); have : j = p := (by omega); subst this; omega) (fun j z1 z2 => hhi j (by omega) z2) | exact ih q _ _ (by omega) (by omega) (fun j hj => hlo j (by omega)) (fun j z1 z2 => by rcases Nat.lt_or_ge p j with z | z; exact Int.not_le.mp (fun z9 => absurd (hs p j z z2 z9) (by omega)); have : j = p := (by omega); subst this; omega)
theorem c_J1_put_2 {b : Nat} (P : TH h a n ad K W vs cmp nk n mc hh T) (S : Tsh n T lo hi) (RB : ∀ r, T 3 0 = some r → T 4 r ≠ none) (hk : ∀ i, i < n → cmpOk E (ovl h a hh) cmp key (K i) (c i)) (h0k : cmpOk E (ovl h a hh) cmp key key z0) (hs : Srt n c) (hne : ∀ i, i < n → c i ≠ 0) (hb : 7 ≤ b) (K' : KPut h a n ad K W vs cmp nk mc key w c Q) : V E mJ1_put_2 6 b 0 [some (.ref a), some (.ref key), some (.ref w), some (vI 1), none, none, none, none, none, none] [] (ovl h a hh) Q X := by
  rcases hr : T 3 0 with _ | r
  · have hn := S.1 hr
    subst hn
    refine V_aload_n dJ1_put_2_0 rfl ?_
    refine VT_getRoot P dJ1_put_2_1 q190 (o := none) hr ?_
    refine V_astoreN dJ1_put_2_4 (by decide) ?_
    refine V_aloadN dJ1_put_2_6 rfl ?_
    refine V_ifnonnullN dJ1_put_2_8 ?_
    refine V_aload_n dJ1_put_2_11 rfl ?_
    refine V_aload_n dJ1_put_2_12 rfl ?_
    refine V_aload_n dJ1_put_2_13 rfl ?_
    refine V_invVc (M' := mJ1_addEntryToEmptyMap) (As := [.ref key, .ref w]) (rest := []) okJ1_addEntryToEmptyMap dJ1_put_2_14 q423 rfl rfl (clsE.o P.ob) rfl rfl (Nat.le_of_ble_eq_true rfl) (d' := 5) (b1 := b) (by first | decide | omega) (by first | decide | omega) (c_J1_addEntryToEmptyMap P h0k (by omega) (fun x hx hh' T' lo' hi' P' S' R' => ?_))
    refine V_null dJ1_put_2_17 ?_
    exact V_aret dJ1_put_2_18 rfl rfl (Or.inl rfl) (by exact K' x 0 hx (Nat.le_refl _) (fun i hi => absurd hi (Nat.not_lt_zero i)) (fun i _ hi => absurd hi (Nat.not_lt_zero i)) _ _ _ _ P' S' R')
  · obtain ⟨b1, b2, b3, b4⟩ := S.2.1 r hr
    rcases id h0k with ⟨rfl, x, y, hx, hy, hkx, -, -⟩ | ⟨cc, rfl, hc, -⟩
    · refine V.mono (Nat.le_succ 5) (Nat.le_refl b) ?_
      refine V_aload_n dJ1_put_2_0 rfl ?_
      refine VT_getRoot P dJ1_put_2_1 q190 (o := some r) hr ?_
      refine V_astore dJ1_put_2_4 (by decide) ?_
      refine V_aload dJ1_put_2_6 rfl ?_
      refine V_ifnonnull 19 dJ1_put_2_8 (by decide) ?_
      refine V_aload_n dJ1_put_2_19 rfl ?_
      refine V_getf okJ1 2 dJ1_put_2_20 q189 (by decide) P.ob rfl ?_
      refine V_astoreN dJ1_put_2_23 (by decide) ?_
      refine V_aloadN dJ1_put_2_25 rfl ?_
      refine V_ifnullN 112 dJ1_put_2_27 (by decide) ?_
      refine V_aload_n dJ1_put_2_112 rfl ?_
      refine V_invS (M' := mJ17_requireNonNull) (As := [.ref key]) (rest := []) okJ17_requireNonNull dJ1_put_2_113 q679 rfl rfl rfl (Nat.le_of_ble_eq_true rfl) (d' := 0) (b1 := 0) (by first | decide | omega) (by first | decide | omega) (c_J17_requireNonNull ?_)
      refine V_pop dJ1_put_2_116 rfl ?_
      refine V_aload_n dJ1_put_2_117 rfl ?_
      refine V_castY dJ1_put_2_118 q431 rfl (List.mem_append_left _ q450) (Or.inr ⟨_, (hkx ▸ cst.int hx.1 hx.2)⟩) ?_
      refine V_astore dJ1_put_2_121 (by decide) ?_
      exact putI_L hx hkx P S RB hk hs hne (by omega) K' _ r _ _ (Nat.le_refl _) b1 (fun j hj => by omega) (fun j z1 z2 => by omega)
    · refine V.mono (Nat.le_succ 5) (Nat.le_refl b) ?_
      refine V_aload_n dJ1_put_2_0 rfl ?_
      refine VT_getRoot P dJ1_put_2_1 q190 (o := some r) hr ?_
      refine V_astore dJ1_put_2_4 (by decide) ?_
      refine V_aload dJ1_put_2_6 rfl ?_
      refine V_ifnonnull 19 dJ1_put_2_8 (by decide) ?_
      refine V_aload_n dJ1_put_2_19 rfl ?_
      refine V_getf okJ1 2 dJ1_put_2_20 q189 (by decide) P.ob rfl ?_
      refine V_astore dJ1_put_2_23 (by decide) ?_
      refine V_aload dJ1_put_2_25 rfl ?_
      refine V_ifnull dJ1_put_2_27 ?_
      exact putC_L hc P S RB hk hs hne (by omega) K' _ r _ _ (Nat.le_refl _) b1 (fun j hj => by omega) (fun j z1 z2 => by omega)
theorem c_J1_put {b : Nat} (P : TH h a n ad K W vs cmp nk n mc hh T) (S : Tsh n T lo hi) (RB : ∀ r, T 3 0 = some r → T 4 r ≠ none) (hk : ∀ i, i < n → cmpOk E (ovl h a hh) cmp key (K i) (c i)) (h0k : cmpOk E (ovl h a hh) cmp key key z0) (hs : Srt n c) (hne : ∀ i, i < n → c i ≠ 0) (hb : 7 ≤ b) (K' : KPut h a n ad K W vs cmp nk mc key w c Q) : V E mJ1_put 7 b 0 [some (.ref a), some (.ref key), some (.ref w)] [] (ovl h a hh) Q X := by
  refine V_aload_n dJ1_put_0 rfl ?_
  refine V_aload_n dJ1_put_1 rfl ?_
  refine V_aload_n dJ1_put_2 rfl ?_
  refine V_iconst dJ1_put_3 ?_
  refine V_invVc (M' := mJ1_put_2) (As := [.ref key, .ref w, vI 1]) (rest := []) okJ1_put_2 dJ1_put_4 q419 rfl rfl (clsE.o P.ob) rfl rfl (Nat.le_of_ble_eq_true rfl) (d' := 6) (b1 := b) (by first | decide | omega) (by first | decide | omega) (c_J1_put_2 P S RB hk h0k hs hne hb (fun x j hx hj h1 h2 hh' T' lo' hi' P' S' R' => ?_))
  exact V_aret dJ1_put_7 rfl rfl (Or.inl rfl) (by exact K' x j hx hj h1 h2 hh' T' lo' hi' P' S' R')
end TM11
