/-! TREES: looking for keys -/
section TM8
variable {E : Ev} {a n i r : Nat} {h hh : AH} {Q : Value → AH → Prop} {X : Nat → AH → Prop} {ad K W : Nat → Nat} {vs cmp nk : Value} {sz mc : Int} {T : TT} {lo hi : Nat → Nat} {c : Nat → Int} {key : Nat}
theorem floor_U (P : TH h a n ad K W vs cmp nk sz mc hh T) (S : Tsh n T lo hi) {i : Nat} {l1 l2 l3 : Option Value} (K0 : i = 0 → Q .null (ovl h a hh)) (K1 : 0 < i → Q (.ref (ad (i - 1))) (ovl h a hh)) : ∀ (m j : Nat), n - (hi j - lo j) ≤ m → j < n → lo j = i → V E mJ1_getFloorEntry 5 0 68 [some (.ref a), l1, l2, l3, some (va_rf (Option.map ad (T 2 j))), some (.ref (ad j))] [] (ovl h a hh) Q X := by
  intro m
  induction m with
  | zero =>
    intro j hm hj hhi
    obtain ⟨a1, a2, a3, a4, a5, a6, a7, a8, a9⟩ := S.2.2 j hj
    rcases hp : T 2 j with _ | p
    · have := S.2.1 j (a8 hp)
      refine V_aloadN dJ1_getFloorEntry_68 rfl ?_
      refine V_ifnullN 97 dJ1_getFloorEntry_70 (by decide) ?_
      refine V_aloadN dJ1_getFloorEntry_97 rfl ?_
      exact V_aret dJ1_getFloorEntry_99 rfl rfl (isR.or isR.nn) (by exact K0 (by omega))
    · obtain ⟨z1, z2⟩ := a9 p hp
      obtain ⟨b1, b2, b3, b4, b5, b6, b7, b8, b9⟩ := S.2.2 p z1
      rcases z2 with z | z
      · have := b5 j z; omega
      · have := b7 j z; omega
  | succ m ih =>
    intro j hm hj hhi
    obtain ⟨a1, a2, a3, a4, a5, a6, a7, a8, a9⟩ := S.2.2 j hj
    rcases hp : T 2 j with _ | p
    · have := S.2.1 j (a8 hp)
      refine V_aloadN dJ1_getFloorEntry_68 rfl ?_
      refine V_ifnullN 97 dJ1_getFloorEntry_70 (by decide) ?_
      refine V_aloadN dJ1_getFloorEntry_97 rfl ?_
      exact V_aret dJ1_getFloorEntry_99 rfl rfl (isR.or isR.nn) (by exact K0 (by omega))
    · obtain ⟨z1, z2⟩ := a9 p hp
      obtain ⟨b1, b2, b3, b4, b5, b6, b7, b8, b9⟩ := S.2.2 p z1
      by_cases hr : T 0 p = some j
      · have := b5 j hr
        have ih' := ih p (by omega) z1 (by omega)
        refine V_aload dJ1_getFloorEntry_68 rfl ?_
        refine V_ifnull dJ1_getFloorEntry_70 ?_
        refine V_aload dJ1_getFloorEntry_73 rfl ?_
        refine V_aload dJ1_getFloorEntry_75 rfl ?_
        refine VT_get 0 (by decide) P z1 dJ1_getFloorEntry_77 q660 (o := some j) hr ?_
        refine V_acmp_ne (rx := (some (ad j))) (ry := (some (ad j))) 97 dJ1_getFloorEntry_80 (by decide) (fun c_80 => absurd rfl c_80) (fun _ => ?_)
        refine V_aload dJ1_getFloorEntry_83 rfl ?_
        refine V_astore dJ1_getFloorEntry_85 (by decide) ?_
        refine V_aload dJ1_getFloorEntry_87 rfl ?_
        refine VT_get 2 (by decide) P z1 dJ1_getFloorEntry_89 q663 (o := T 2 p) rfl ?_
        refine V_astoreG dJ1_getFloorEntry_92 isR.rf (by decide) ?_
        refine V_goto 68 dJ1_getFloorEntry_94 (by decide) ?_
        exact ih'
      · have hl : T 1 p = some j := by rcases z2 with z | z; exact absurd z hr; exact z
        have := b7 j hl
        have e : i - 1 = p := by omega
        rw [e] at K1
        refine V_aload dJ1_getFloorEntry_68 rfl ?_
        refine V_ifnull dJ1_getFloorEntry_70 ?_
        refine V_aload dJ1_getFloorEntry_73 rfl ?_
        refine V_aload dJ1_getFloorEntry_75 rfl ?_
        refine VT_get 0 (by decide) P z1 dJ1_getFloorEntry_77 q660 (o := T 0 p) rfl ?_
        refine V_acmp_ne (rx := (some (ad j))) (ry := (Option.map ad (T 0 p))) 97 dJ1_getFloorEntry_80 (by decide) (fun c_80 => ?_) (fun c_80 => by exfalso; exact hr (P.opt hj (fun j' e => P.2.2.2.2.1 0 p j' (by decide) z1 e) c_80.symm))
        refine V_aload dJ1_getFloorEntry_97 rfl ?_
        exact V_aret dJ1_getFloorEntry_99 rfl rfl (isR.or isR.rr) (by exact K1 (by omega))
theorem floor_L (P : TH h a n ad K W vs cmp nk sz mc hh T) (S : Tsh n T lo hi) (hk : ∀ i, i < n → cmpOk E (ovl h a hh) cmp key (K i) (c i)) (hs : Srt n c) (K0 : (∀ i, i < n → c i < 0) → Q .null (ovl h a hh)) (K1 : ∀ i, i < n → 0 ≤ c i → (∀ j, i < j → j < n → c j < 0) → Q (.ref (ad i)) (ovl h a hh)) {l4 l5 : Option Value} : ∀ (m p : Nat) (l3 : Option Value), hi p - lo p ≤ m → p < n → (∀ j, j < lo p → 0 < c j) → (∀ j, hi p ≤ j → j < n → c j < 0) → V E mJ1_getFloorEntry 5 0 5 [some (.ref a), some (.ref key), some (.ref (ad p)), l3, l4, l5] [] (ovl h a hh) Q X := by
  intro m
  induction m with
  | zero =>
    intro p l3 hm hp
    obtain ⟨a1, a2, -⟩ := S.2.2 p hp
    omega
  | succ m ih =>
    intro p l3 hm hp hlo hhi
    obtain ⟨a1, a2, a3, a4, a5, a6, a7, a8, a9⟩ := S.2.2 p hp
    have ic := (hk p hp).inr
    rcases hl : T 0 p with _ | q <;> rcases hr : T 1 p with _ | q'
    all_goals
      have hll : ∀ q, T 0 p = some q → 0 < n := fun _ _ => by omega
    · have w1 := a4 hl
      have w2 := a6 hr
      refine V_aload_n dJ1_getFloorEntry_5 rfl ?_
      refine V_ifnull dJ1_getFloorEntry_6 ?_
      refine V_aload_n dJ1_getFloorEntry_9 rfl ?_
      refine V_aload_n dJ1_getFloorEntry_10 rfl ?_
      refine V_aload_n dJ1_getFloorEntry_11 rfl ?_
      refine V_getf okJ16 0 dJ1_getFloorEntry_12 q656 (by decide) (P.en hp) rfl ?_
      refine V_invVc (M' := mJ1_compare) (As := [.ref key, .ref (K p)]) (rest := []) okJ1_compare dJ1_getFloorEntry_15 q427 rfl rfl (clsE.o P.ob) rfl rfl (Nat.le_of_ble_eq_true rfl) (d' := 4) (b1 := 0) (by first | decide | omega) (by first | decide | omega) (c_J1_compare P.ob (hk p hp) ?_)
      refine V_istore_n dJ1_getFloorEntry_18 (by decide) ?_
      refine V_iload_n dJ1_getFloorEntry_19 rfl ?_
      refine V_if_le 40 dJ1_getFloorEntry_20 (by decide) (by first | exact ic | decide) (fun c_20 => ?_) (fun c_20 => ?_)
      · refine V_iload_n dJ1_getFloorEntry_40 rfl ?_
        refine V_if_ge 100 dJ1_getFloorEntry_41 (by decide) (by first | exact ic | decide) (fun c_41 => ?_) (fun c_41 => ?_)
        · refine V_aload_n dJ1_getFloorEntry_100 rfl ?_
          exact V_aret dJ1_getFloorEntry_101 rfl rfl (isR.or isR.rr) (by exact K1 p hp (by omega) (fun j z1 z2 => hhi j (by omega) z2))
        · refine V_aload_n dJ1_getFloorEntry_44 rfl ?_
          refine VT_get 0 (by decide) P hp dJ1_getFloorEntry_45 q660 (o := none) hl ?_
          refine V_ifnullN 59 dJ1_getFloorEntry_48 (by decide) ?_
          refine V_aload_n dJ1_getFloorEntry_59 rfl ?_
          refine VT_get 2 (by decide) P hp dJ1_getFloorEntry_60 q663 (o := T 2 p) rfl ?_
          refine V_astoreG dJ1_getFloorEntry_63 isR.rf (by decide) ?_
          refine V_aload_n dJ1_getFloorEntry_65 rfl ?_
          refine V_astore dJ1_getFloorEntry_66 (by decide) ?_
          exact floor_U P S (i := p) (fun e => K0 (fun j hj => by rcases Nat.lt_trichotomy j p with z | z | z; omega; subst z; omega; exact hhi j (by omega) hj)) (fun e => K1 (p - 1) (by omega) (Int.le_of_lt (hlo (p - 1) (by omega))) (fun j z1 z2 => by rcases Nat.lt_or_ge p j with z | z; exact hhi j (by omega) z2; have : j = p := (by omega); subst this; omega)) _ p (Nat.le_refl _) hp w1
      · refine V_aload_n dJ1_getFloorEntry_23 rfl ?_
        refine VT_get 1 (by decide) P hp dJ1_getFloorEntry_24 q661 (o := none) hr ?_
        refine V_ifnullN 38 dJ1_getFloorEntry_27 (by decide) ?_
        refine V_aload_n dJ1_getFloorEntry_38 rfl ?_
        exact V_aret dJ1_getFloorEntry_39 rfl rfl (isR.or isR.rr) (by exact K1 p hp (by omega) (fun j z1 z2 => hhi j (by omega) z2))
    · have w1 := a4 hl
      obtain ⟨y1, y2, y3, y4, y5⟩ := a7 q' hr
      refine V_aload_n dJ1_getFloorEntry_5 rfl ?_
      refine V_ifnull dJ1_getFloorEntry_6 ?_
      refine V_aload_n dJ1_getFloorEntry_9 rfl ?_
      refine V_aload_n dJ1_getFloorEntry_10 rfl ?_
      refine V_aload_n dJ1_getFloorEntry_11 rfl ?_
      refine V_getf okJ16 0 dJ1_getFloorEntry_12 q656 (by decide) (P.en hp) rfl ?_
      refine V_invVc (M' := mJ1_compare) (As := [.ref key, .ref (K p)]) (rest := []) okJ1_compare dJ1_getFloorEntry_15 q427 rfl rfl (clsE.o P.ob) rfl rfl (Nat.le_of_ble_eq_true rfl) (d' := 4) (b1 := 0) (by first | decide | omega) (by first | decide | omega) (c_J1_compare P.ob (hk p hp) ?_)
      refine V_istore_n dJ1_getFloorEntry_18 (by decide) ?_
      refine V_iload_n dJ1_getFloorEntry_19 rfl ?_
      refine V_if_le 40 dJ1_getFloorEntry_20 (by decide) (by first | exact ic | decide) (fun c_20 => ?_) (fun c_20 => ?_)
      · refine V_iload_n dJ1_getFloorEntry_40 rfl ?_
        refine V_if_ge 100 dJ1_getFloorEntry_41 (by decide) (by first | exact ic | decide) (fun c_41 => ?_) (fun c_41 => ?_)
        · refine V_aload_n dJ1_getFloorEntry_100 rfl ?_
          exact V_aret dJ1_getFloorEntry_101 rfl rfl (isR.or isR.rr) (by exact K1 p hp (by omega) (fun j z1 z2 => Int.not_le.mp (fun z9 => absurd (hs p j z1 z2 z9) (by omega))))
        · refine V_aload_n dJ1_getFloorEntry_44 rfl ?_
          refine VT_get 0 (by decide) P hp dJ1_getFloorEntry_45 q660 (o := none) hl ?_
          refine V_ifnullN 59 dJ1_getFloorEntry_48 (by decide) ?_
          refine V_aload_n dJ1_getFloorEntry_59 rfl ?_
          refine VT_get 2 (by decide) P hp dJ1_getFloorEntry_60 q663 (o := T 2 p) rfl ?_
          refine V_astoreG dJ1_getFloorEntry_63 isR.rf (by decide) ?_
          refine V_aload_n dJ1_getFloorEntry_65 rfl ?_
          refine V_astore dJ1_getFloorEntry_66 (by decide) ?_
          exact floor_U P S (i := p) (fun e => K0 (fun j hj => by rcases Nat.lt_trichotomy j p with z | z | z; omega; subst z; omega; exact Int.not_le.mp (fun z9 => absurd (hs p j z hj z9) (by omega)))) (fun e => K1 (p - 1) (by omega) (Int.le_of_lt (hlo (p - 1) (by omega))) (fun j z1 z2 => by rcases Nat.lt_or_ge p j with z | z; exact Int.not_le.mp (fun z9 => absurd (hs p j z z2 z9) (by omega)); have : j = p := (by omega); subst this; omega)) _ p (Nat.le_refl _) hp w1
      · refine V_aload_n dJ1_getFloorEntry_23 rfl ?_
        refine VT_get 1 (by decide) P hp dJ1_getFloorEntry_24 q661 (o := some q') hr ?_
        refine V_ifnull dJ1_getFloorEntry_27 ?_
        refine V_aload_n dJ1_getFloorEntry_30 rfl ?_
        refine VT_get 1 (by decide) P hp dJ1_getFloorEntry_31 q661 (o := some q') hr ?_
        refine V_astore_n dJ1_getFloorEntry_34 (by decide) ?_
        refine V_goto 102 dJ1_getFloorEntry_35 (by decide) ?_
        refine V_goto 5 dJ1_getFloorEntry_102 (by decide) ?_
        exact ih q' _ (by omega) y2 (fun j hj => by rcases Nat.lt_trichotomy j p with z | z | z; exact hlo j (by omega); subst z; omega; omega) (fun j z1 z2 => hhi j (by omega) z2)
    · have w2 := a6 hr
      obtain ⟨y1, y3, y4, y5⟩ := a5 q hl
      refine V_aload_n dJ1_getFloorEntry_5 rfl ?_
      refine V_ifnull dJ1_getFloorEntry_6 ?_
      refine V_aload_n dJ1_getFloorEntry_9 rfl ?_
      refine V_aload_n dJ1_getFloorEntry_10 rfl ?_
      refine V_aload_n dJ1_getFloorEntry_11 rfl ?_
      refine V_getf okJ16 0 dJ1_getFloorEntry_12 q656 (by decide) (P.en hp) rfl ?_
      refine V_invVc (M' := mJ1_compare) (As := [.ref key, .ref (K p)]) (rest := []) okJ1_compare dJ1_getFloorEntry_15 q427 rfl rfl (clsE.o P.ob) rfl rfl (Nat.le_of_ble_eq_true rfl) (d' := 4) (b1 := 0) (by first | decide | omega) (by first | decide | omega) (c_J1_compare P.ob (hk p hp) ?_)
      refine V_istore_n dJ1_getFloorEntry_18 (by decide) ?_
      refine V_iload_n dJ1_getFloorEntry_19 rfl ?_
      refine V_if_le 40 dJ1_getFloorEntry_20 (by decide) (by first | exact ic | decide) (fun c_20 => ?_) (fun c_20 => ?_)
      · refine V_iload_n dJ1_getFloorEntry_40 rfl ?_
        refine V_if_ge 100 dJ1_getFloorEntry_41 (by decide) (by first | exact ic | decide) (fun c_41 => ?_) (fun c_41 => ?_)
        · refine V_aload_n dJ1_getFloorEntry_100 rfl ?_
          exact V_aret dJ1_getFloorEntry_101 rfl rfl (isR.or isR.rr) (by exact K1 p hp (by omega) (fun j z1 z2 => hhi j (by omega) z2))
        · refine V_aload_n dJ1_getFloorEntry_44 rfl ?_
          refine VT_get 0 (by decide) P hp dJ1_getFloorEntry_45 q660 (o := some q) hl ?_
          refine V_ifnull dJ1_getFloorEntry_48 ?_
          refine V_aload_n dJ1_getFloorEntry_51 rfl ?_
          refine VT_get 0 (by decide) P hp dJ1_getFloorEntry_52 q660 (o := some q) hl ?_
          refine V_astore_n dJ1_getFloorEntry_55 (by decide) ?_
          refine V_goto 102 dJ1_getFloorEntry_56 (by decide) ?_
          refine V_goto 5 dJ1_getFloorEntry_102 (by decide) ?_
          exact ih q _ (by omega) (by omega) (fun j hj => hlo j (by omega)) (fun j z1 z2 => by rcases Nat.lt_or_ge p j with z | z; exact hhi j (by omega) z2; have : j = p := (by omega); subst this; omega)
      · refine V_aload_n dJ1_getFloorEntry_23 rfl ?_
        refine VT_get 1 (by decide) P hp dJ1_getFloorEntry_24 q661 (o := none) hr ?_
        refine V_ifnullN 38 dJ1_getFloorEntry_27 (by decide) ?_
        refine V_aload_n dJ1_getFloorEntry_38 rfl ?_
        exact V_aret dJ1_getFloorEntry_39 rfl rfl (isR.or isR.rr) (by exact K1 p hp (by omega) (fun j z1 z2 => hhi j (by omega) z2))
    · obtain ⟨y1, y2, y3, y4, y5⟩ := a7 q' hr
      obtain ⟨x1, x3, x4, x5⟩ := a5 q hl
      refine V_aload_n dJ1_getFloorEntry_5 rfl ?_
      refine V_ifnull dJ1_getFloorEntry_6 ?_
      refine V_aload_n dJ1_getFloorEntry_9 rfl ?_
      refine V_aload_n dJ1_getFloorEntry_10 rfl ?_
      refine V_aload_n dJ1_getFloorEntry_11 rfl ?_
      refine V_getf okJ16 0 dJ1_getFloorEntry_12 q656 (by decide) (P.en hp) rfl ?_
      refine V_invVc (M' := mJ1_compare) (As := [.ref key, .ref (K p)]) (rest := []) okJ1_compare dJ1_getFloorEntry_15 q427 rfl rfl (clsE.o P.ob) rfl rfl (Nat.le_of_ble_eq_true rfl) (d' := 4) (b1 := 0) (by first | decide | omega) (by first | decide | omega) (c_J1_compare P.ob (hk p hp) ?_)
      refine V_istore_n dJ1_getFloorEntry_18 (by decide) ?_
      refine V_iload_n dJ1_getFloorEntry_19 rfl ?_
      refine V_if_le 40 dJ1_getFloorEntry_20 (by decide) (by first | exact ic | decide) (fun c_20 => ?_) (fun c_20 => ?_)
      · refine V_iload_n dJ1_getFloorEntry_40 rfl ?_
        refine V_if_ge 100 dJ1_getFloorEntry_41 (by decide) (by first | exact ic | decide) (fun c_41 => ?_) (fun c_41 => ?_)
        · refine V_aload_n dJ1_getFloorEntry_100 rfl ?_
          exact V_aret dJ1_getFloorEntry_101 rfl rfl (isR.or isR.rr) (by exact K1 p hp (by omega) (fun j z1 z2 => Int.not_le.mp (fun z9 => absurd (hs p j z1 z2 z9) (by omega))))
        · refine V_aload_n dJ1_getFloorEntry_44 rfl ?_
          refine VT_get 0 (by decide) P hp dJ1_getFloorEntry_45 q660 (o := some q) hl ?_
          refine V_ifnull dJ1_getFloorEntry_48 ?_
          refine V_aload_n dJ1_getFloorEntry_51 rfl ?_
          refine VT_get 0 (by decide) P hp dJ1_getFloorEntry_52 q660 (o := some q) hl ?_
          refine V_astore_n dJ1_getFloorEntry_55 (by decide) ?_
          refine V_goto 102 dJ1_getFloorEntry_56 (by decide) ?_
          refine V_goto 5 dJ1_getFloorEntry_102 (by decide) ?_
          first | exact ih q' _ (by omega) y2 (fun j hj => by rcases Nat.lt_trichotomy j p with z | z | z; exact hs j p z hp (by omega); subst z; omega; omega) (fun j z1 z2 => hhi j (by omega) z2) | exact ih q _ (by omega) (by omega) (fun j hj => hlo j (by omega)) (fun j z1 z2 => by rcases Nat.lt_or_ge p j with z | z; exact Int.not_le.mp (fun z9 => absurd (hs p j z z2 z9) (by omega)); have : j = p := (by omega); subst this; omega)
      · refine V_aload_n dJ1_getFloorEntry_23 rfl ?_
        refine VT_get 1 (by decide) P hp dJ1_getFloorEntry_24 q661 (o := some q') hr ?_
        refine V_ifnull dJ1_getFloorEntry_27 ?_
        refine V_aload_n dJ1_getFloorEntry_30 rfl ?_
        refine VT_get 1 (by decide) P hp dJ1_getFloorEntry_31 q661 (o := some q') hr ?_
        refine V_astore_n dJ1_getFloorEntry_34 (by decide) ?_
        refine V_goto 102 dJ1_getFloorEntry_35 (by decide) ?_
        refine V_goto 5 dJ1_getFloorEntry_102 (by decide) ?_
        first | exact ih q' _ (by omega) y2 (fun j hj => by rcases Nat.lt_trichotomy j p with z | z | z; exact hs j p z hp (by omega); subst z; omega; omega) (fun j z1 z2 => hhi j (by omega) z2) | exact ih q _ (by omega) (by omega) (fun j hj => hlo j (by omega)) (fun j z1 z2 => by rcases Nat.lt_or_ge p j with z | z; exact Int.not_le.mp (fun z9 => absurd (hs p j z z2 z9) (by omega)); have : j = p := (by omega); subst this; omega)
theorem c_J1_getFloorEntry (P : TH h a n ad K W vs cmp nk sz mc hh T) (S : Tsh n T lo hi) (hk : ∀ i, i < n → cmpOk E (ovl h a hh) cmp key (K i) (c i)) (hs : Srt n c) (K0 : (∀ i, i < n → c i < 0) → Q .null (ovl h a hh)) (K1 : ∀ i, i < n → 0 ≤ c i → (∀ j, i < j → j < n → c j < 0) → Q (.ref (ad i)) (ovl h a hh)) : V E mJ1_getFloorEntry 5 0 0 [some (.ref a), some (.ref key), none, none, none, none] [] (ovl h a hh) Q X := by
  rcases hr : T 3 0 with _ | r
  · refine V_aload_n dJ1_getFloorEntry_0 rfl ?_
    refine VT_getRoot P dJ1_getFloorEntry_1 q190 (o := none) hr ?_
    refine V_astore_nN dJ1_getFloorEntry_4 (by decide) ?_
    refine V_aload_nN dJ1_getFloorEntry_5 rfl ?_
    refine V_ifnullN 105 dJ1_getFloorEntry_6 (by decide) ?_
    refine V_null dJ1_getFloorEntry_105 ?_
    exact V_aret dJ1_getFloorEntry_106 rfl rfl (Or.inl rfl) (by exact K0 (fun i hi => absurd (S.1 hr) (by omega)))
  · obtain ⟨b1, b2, b3, b4⟩ := S.2.1 r hr
    refine V_aload_n dJ1_getFloorEntry_0 rfl ?_
    refine VT_getRoot P dJ1_getFloorEntry_1 q190 (o := some r) hr ?_
    refine V_astore_n dJ1_getFloorEntry_4 (by decide) ?_
    exact floor_L P S hk hs K0 K1 _ r _ (Nat.le_refl _) b1 (fun j hj => by omega) (fun j z1 z2 => by omega)
end TM8
