/-! TREEMAP: as one cell -/
/-- what a TreeMap's own cells say: n entries in their order, entry i at ad i with key K i and value W i -/
def tmP (a n : Nat) (ad K W : Nat → Nat) (cmp : Value) (mc : Int) (hh : AH) : Prop := ∃ (vs nk : Value) (T : TT) (lo hi : Nat → Nat), (∀ h, dj h a hh → TH h a n ad K W vs cmp nk n mc hh T) ∧ Tsh n T lo hi ∧ RBk T
def cTM (a n : Nat) (ad K W : Nat → Nat) (cmp : Value) (mc : Int) : Ao := oC 15 (fold (tmP a n ad K W cmp mc))
theorem TH.all {h h2 : AH} {a n : Nat} {ad K W : Nat → Nat} {vs cmp nk : Value} {sz mc : Int} {hh : AH} {T : TT} (P : TH h a n ad K W vs cmp nk sz mc hh T) (D : dj h2 a hh) : TH h2 a n ad K W vs cmp nk sz mc hh T := ⟨⟨D, P.1.2⟩, P.2⟩
theorem TH.ext {h : AH} {a n x : Nat} {ad K W : Nat → Nat} {vs cmp nk : Value} {sz mc : Int} {hh : AH} {T : TT} {c : Ao} (P : TH h a n ad K W vs cmp nk sz mc hh T) (hx : ovl h a hh x = none) : TH h a n ad K W vs cmp nk sz mc (hset hh x c) T := by
  obtain ⟨x1, x2, x3⟩ := ovl_none hx P.2.1
  obtain ⟨p1, p2, p3, p4, p5⟩ := P
  refine ⟨⟨p1.1.set (Or.inr x2), p1.2.new x1⟩, by rw [hset_ne (fun e => x3 e.symm)]; exact p2, fun i hi => ?_, p4, p5⟩
  rw [hset_ne (fun e => by have := p3 i hi; rw [e, x1] at this; cases this)]
  exact p3 i hi
theorem ovl_push {h hh : AH} {a x : Nat} {c : Ao} (hx : hh x = none) (n : x ≠ a) : hset (ovl h a hh) x c = ovl (hset h x c) a hh := by
  funext q
  unfold hset ovl
  by_cases e : q = x
  · subst e
    simp [hx, n]
  · simp [e]
theorem dj.push {h hh : AH} {a x : Nat} {c : Ao} (D : dj h a hh) (hx : hh x = none) : dj (hset h x c) a hh := fun q n hq => by
  rw [hset_ne (fun e => hq (by rw [e]; exact hx))]
  exact D q n hq
theorem cmpOk.inn {E : Ev} {h hh : AH} {a k1 k2 : Nat} {cmp : Value} {z : Int} {Φ : PH → Prop} (D : dj h a hh) (ha : h a = some (oC 15 Φ)) (c : cmpOk E h cmp k1 k2 z) : cmpOk E (ovl h a hh) cmp k1 k2 z := by
  rcases c with c | ⟨c, rfl, hc, n1, t1, n2, t2, f1, f2, h1, h2, r⟩
  · exact Or.inl c
  · exact Or.inr ⟨c, rfl, ovl_old D (ne_t hc ha rfl) hc, n1, t1, n2, t2, f1, f2, ovl_old D (ne_t h1 ha rfl) h1, ovl_old D (ne_t h2 ha rfl) h2, r⟩
section TM16
variable {E : Ev} {M : Mt} {d b pc a n i x key w : Nat} {ls : List (Option Value)} {st : List Value} {h hh : AH} {Q : Value → AH → Prop} {X : Nat → AH → Prop} {ad K W : Nat → Nat} {vs cmp nk : Value} {sz mc : Int} {T : TT} {lo hi : Nat → Nat} {c : Nat → Int} {z0 : Int}
theorem V_tm (ha : h a = some (cTM a n ad K W cmp mc)) (k : ∀ (hh : AH) (vs nk : Value) (T : TT) (lo hi : Nat → Nat), TH h a n ad K W vs cmp nk n mc hh T → Tsh n T lo hi → RBk T → V E M d b pc ls st (ovl h a hh) Q X) : V E M d b pc ls st h Q X :=
  V_open ha (fun hh ⟨vs, nk, T, lo, hi, P, S, R⟩ D => k hh vs nk T lo hi (P h D) S R)
theorem V_tmc (P : TH h a n ad K W vs cmp nk n mc hh T) (S : Tsh n T lo hi) (R : RBk T) (k : V E M d b pc ls st (hset h a (cTM a n ad K W cmp mc)) Q X) : V E M d b pc ls st (ovl h a hh) Q X :=
  V_close (tmP a n ad K W cmp mc) ⟨vs, nk, T, lo, hi, fun h2 D => P.all D, S, R⟩ P.2.1 P.1.1 k
theorem V_tms (ha : h a = some (cTM a n ad K W cmp mc)) (P : TH h a n ad K W vs cmp nk n mc hh T) (S : Tsh n T lo hi) (R : RBk T) (k : V E M d b pc ls st h Q X) : V E M d b pc ls st (ovl h a hh) Q X := by
  refine V_tmc P S R ?_
  rw [hset_same ha]
  exact k
/-- behind an answer: closed -/
theorem Qc_tm {v : Value} (P : TH h a n ad K W vs cmp nk n mc hh T) : dj h a hh := P.1.1
theorem c_J0_init (K : Q .null h) : V E mJ0_init 1 0 0 [some (.ref a)] [] h Q X := by
  refine V_aload_n dJ0_init_0 rfl ?_
  refine V_objI dJ0_init_1 q188 (Nat.le_of_ble_eq_true rfl) (by first | decide | omega) ?_
  exact V_vret dJ0_init_4 rfl (by exact K)
theorem tm_new {cmp : Value} : tmP a 0 ad K W cmp 0 (hset emp a (oO 15 [.null, .null, cmp, .null, vI 0, vI 0, .null, .null, .null])) :=
  ⟨.null, .null, fun _ _ => none, fun _ => 0, fun _ => 0, fun h D => ⟨⟨D, Or.inl rfl, Or.inl rfl⟩, hset_eq, fun i hi => absurd hi (Nat.not_lt_zero i), fun i j hi => absurd hi (Nat.not_lt_zero i), fun k i j hk hi => absurd hi (Nat.not_lt_zero i), fun j e => (by cases e)⟩, ⟨fun _ => rfl, fun r e => (by cases e), fun i hi => absurd hi (Nat.not_lt_zero i)⟩, fun r e => (by cases e)⟩
theorem c_J1_init (ha : h a = some (oO 15 [.null, .null, .null, .null, vI 0, vI 0, .null, .null, .null])) (K' : Q .null (hset h a (cTM a 0 ad K W .null 0))) : V E mJ1_init 2 0 0 [some (.ref a)] [] h Q X := by
  refine V_aload_n dJ1_init_0 rfl ?_
  refine V_invI (M' := mJ0_init) (As := []) (rest := []) okJ0_init dJ1_init_1 q185 rfl rfl rfl (Nat.le_of_ble_eq_true rfl) (d' := 1) (b1 := 0) (by first | decide | omega) (by first | decide | omega) (c_J0_init ?_)
  refine V_aload_n dJ1_init_4 rfl ?_
  refine V_iconst dJ1_init_5 ?_
  refine V_putfE (fs' := [.null, .null, .null, .null, vI 0, vI 0, .null, .null, .null]) okJ1 4 dJ1_init_6 q191 (by decide) rfl ha (by decide) (Nat.le_of_ble_eq_true rfl) rfl rfl rfl rfl ?_
  refine V_aload_n dJ1_init_9 rfl ?_
  refine V_iconst dJ1_init_10 ?_
  refine V_putfE (fs' := [.null, .null, .null, .null, vI 0, vI 0, .null, .null, .null]) okJ1 5 dJ1_init_11 q192 (by decide) rfl hset_eq (by decide) (Nat.le_of_ble_eq_true rfl) rfl rfl rfl hset_hset ?_
  refine V_aload_n dJ1_init_14 rfl ?_
  refine V_null dJ1_init_15 ?_
  refine V_putFE (fs' := [.null, .null, .null, .null, vI 0, vI 0, .null, .null, .null]) okJ1 2 dJ1_init_16 q189 (by decide) rfl rfl rfl hset_eq (by decide) (Nat.le_of_ble_eq_true rfl) rfl rfl rfl hset_hset ?_
  refine V_pack (Ψ := tmP a 0 ad K W .null 0) tm_new ?_
  exact V_vret dJ1_init_19 rfl (by exact K')
theorem c_J1_init_2 (hc : isR cmp) (ha : h a = some (oO 15 [.null, .null, .null, .null, vI 0, vI 0, .null, .null, .null])) (K' : Q .null (hset h a (cTM a 0 ad K W cmp 0))) : V E mJ1_init_2 2 0 0 [some (.ref a), some cmp] [] h Q X := by
  refine V_aload_n dJ1_init_2_0 rfl ?_
  refine V_invI (M' := mJ0_init) (As := []) (rest := []) okJ0_init dJ1_init_2_1 q185 rfl rfl rfl (Nat.le_of_ble_eq_true rfl) (d' := 1) (b1 := 0) (by first | decide | omega) (by first | decide | omega) (c_J0_init ?_)
  refine V_aload_n dJ1_init_2_4 rfl ?_
  refine V_iconst dJ1_init_2_5 ?_
  refine V_putfE (fs' := [.null, .null, .null, .null, vI 0, vI 0, .null, .null, .null]) okJ1 4 dJ1_init_2_6 q191 (by decide) rfl ha (by decide) (Nat.le_of_ble_eq_true rfl) rfl rfl rfl rfl ?_
  refine V_aload_n dJ1_init_2_9 rfl ?_
  refine V_iconst dJ1_init_2_10 ?_
  refine V_putfE (fs' := [.null, .null, .null, .null, vI 0, vI 0, .null, .null, .null]) okJ1 5 dJ1_init_2_11 q192 (by decide) rfl hset_eq (by decide) (Nat.le_of_ble_eq_true rfl) rfl rfl rfl hset_hset ?_
  refine V_aload_n dJ1_init_2_14 rfl ?_
  refine V_aload_nG dJ1_init_2_15 hc rfl ?_
  refine V_putFE (fs' := [.null, .null, cmp, .null, vI 0, vI 0, .null, .null, .null]) okJ1 2 dJ1_init_2_16 q189 (by decide) rfl rfl rfl hset_eq (by decide) (Nat.le_of_ble_eq_true rfl) (isR.narO hc) (isR.fitO hc) rfl hset_hset ?_
  refine V_pack (Ψ := tmP a 0 ad K W cmp 0) tm_new ?_
  exact V_vret dJ1_init_2_19 rfl (by exact K')
theorem c_J1_size (ha : h a = some (cTM a n ad K W cmp mc)) (K' : Q (vI n) h) : V E mJ1_size 0 0 0 [some (.ref a)] [] h Q X := by
  refine V_tm ha (fun hh vs nk T lo hi P S R => ?_)
  refine V_aload_n dJ1_size_0 rfl ?_
  refine V_getf okJ1 4 dJ1_size_1 q191 (by decide) P.ob rfl ?_
  refine V_tms ha P S R ?_
  exact V_iret dJ1_size_4 rfl (by exact K')
theorem c_J1_get (ha : h a = some (cTM a n ad K W .null mc)) {x : Int} {y : Nat → Int} (hx : -128 ≤ x ∧ x ≤ 127) (hy : ∀ i, i < n → K i = iA E (y i) ∧ -128 ≤ y i ∧ y i ≤ 127) (hs : ∀ i j : Nat, i < j → j < n → y i < y j) (K0 : (∀ i, i < n → y i ≠ x) → Q .null h) (K1 : ∀ i, i < n → y i = x → Q (.ref (W i)) h) : V E mJ1_get 5 0 0 [some (.ref a), some (.ref (iA E x)), none] [] h Q X := by
  refine V_tm ha (fun hh vs nk T lo hi P S R => ?_)
  have N0 : (∀ i, i < n → y i ≠ x) → V E mJ1_get 5 0 5 [some (.ref a), some (.ref (iA E x)), none] [.null] (ovl h a hh) Q X := by
    intro hn
    refine V_astore_nN dJ1_get_5 (by decide) ?_
    refine V_aload_nN dJ1_get_6 rfl ?_
    refine V_ifnonnullN dJ1_get_7 ?_
    refine V_null dJ1_get_10 ?_
    refine V_goto 18 dJ1_get_11 (by decide) ?_
    refine V_tms ha P S R ?_
    exact V_aret dJ1_get_18 rfl rfl (Or.inl rfl) (by exact K0 hn)
  have N1 : ∀ i, i < n → y i = x → V E mJ1_get 5 0 5 [some (.ref a), some (.ref (iA E x)), none] [.ref (ad i)] (ovl h a hh) Q X := by
    intro i hi hn
    refine V_astore_n dJ1_get_5 (by decide) ?_
    refine V_aload_n dJ1_get_6 rfl ?_
    refine V_ifnonnull 14 dJ1_get_7 (by decide) ?_
    refine V_aload_n dJ1_get_14 rfl ?_
    refine V_getf okJ16 1 dJ1_get_15 q659 (by decide) (P.en hi) rfl ?_
    refine V_tms ha P S R ?_
    exact V_aret dJ1_get_18 rfl rfl (Or.inr ⟨_, rfl⟩) (by exact K1 i hi hn)
  refine V_aload_n dJ1_get_0 rfl ?_
  refine V_aload_n dJ1_get_1 rfl ?_
  refine V_invVc (M' := mJ1_getEntry) (As := [.ref (iA E x)]) (rest := []) okJ1_getEntry dJ1_get_2 q1371 rfl rfl (clsE.o P.ob) rfl rfl (Nat.le_of_ble_eq_true rfl) (d' := 4) (b1 := 0) (by first | decide | omega) (by first | decide | omega) (c_J1_getEntry P S hx hy hs N0 N1)
  skip
theorem c_J1_putC (ha : h a = some (cTM a n ad K W cmp mc)) (hk : ∀ i, i < n → cmpOk E h cmp key (K i) (c i)) (h0k : cmpOk E h cmp key key z0) (hs : Srt n c) (hne : ∀ i, i < n → c i ≠ 0) (hb : 7 ≤ b) (K' : ∀ (x j : Nat), j ≤ n → (∀ i, i < j → 0 < c i) → (∀ i, j ≤ i → i < n → c i < 0) → Q .null (hset h a (cTM a (n + 1) (insF j x ad) (insF j key K) (insF j w W) cmp (mc + 1)))) : V E mJ1_put 7 b 0 [some (.ref a), some (.ref key), some (.ref w)] [] h Q X := by
  refine V_tm ha (fun hh vs nk T lo hi P S R => ?_)
  have fin : KPut h a n ad K W vs cmp nk mc key w c (fun v h' => V E mJ1_put 7 (b - b) (4 + 3) [some (.ref a), some (.ref key), some (.ref w)] [v] h' Q X) := by
    intro x j hx hj h1 h2 hh' T' lo' hi' P' S' R'
    refine V_tmc P' S' R' ?_
    exact V_aret dJ1_put_7 rfl rfl (Or.inl rfl) (K' x j hj h1 h2)
  refine V_aload_n dJ1_put_0 rfl ?_
  refine V_aload_n dJ1_put_1 rfl ?_
  refine V_aload_n dJ1_put_2 rfl ?_
  refine V_iconst dJ1_put_3 ?_
  refine V_invVc (M' := mJ1_put_2) (As := [.ref key, .ref w, vI 1]) (rest := []) okJ1_put_2 dJ1_put_4 q419 rfl rfl (clsE.o P.ob) rfl rfl (Nat.le_of_ble_eq_true rfl) (d' := 6) (b1 := b) (by first | decide | omega) (by first | decide | omega) (c_J1_put_2 P S R (fun i hi => (hk i hi).inn P.1.1 ha) (h0k.inn P.1.1 ha) hs hne hb fin)
  skip
end TM16
