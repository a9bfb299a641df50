/-! TREES: looking for keys, II -/
section TM9
variable {E : Ev} {a n i r : Nat} {h hh : AH} {Q : Value → AH → Prop} {X : Nat → AH → Prop} {ad K W : Nat → Nat} {vs cmp nk : Value} {sz mc : Int} {T : TT} {lo hi : Nat → Nat} {c : Nat → Int} {key : Nat}
theorem ceil_U (P : TH h a n ad K W vs cmp nk sz mc hh T) (S : Tsh n T lo hi) {i : Nat} {l1 l2 l3 : Option Value} (K0 : i = n → Q .null (ovl h a hh)) (K1 : i < n → Q (.ref (ad i)) (ovl h a hh)) : ∀ (m j : Nat), n - (hi j - lo j) ≤ m → j < n → hi j = i → V E mJ1_getCeilingEntry 5 0 68 [some (.ref a), l1, l2, l3, some (va_rf (Option.map ad (T 2 j))), some (.ref (ad j))] [] (ovl h a hh) Q X := by
  intro m
  induction m with
  | zero =>
    intro j hm hj hhi
    obtain ⟨a1, a2, a3, a4, a5, a6, a7, a8, a9⟩ := S.2.2 j hj
    rcases hp : T 2 j with _ | p
    · have := S.2.1 j (a8 hp)
      refine V_aloadN dJ1_getCeilingEntry_68 rfl ?_
      refine V_ifnullN 97 dJ1_getCeilingEntry_70 (by decide) ?_
      refine V_aloadN dJ1_getCeilingEntry_97 rfl ?_
      exact V_aret dJ1_getCeilingEntry_99 rfl rfl (isR.or isR.nn) (by exact K0 (by omega))
    · obtain ⟨z1, z2⟩ := a9 p hp
      obtain ⟨b1, b2, b3, b4, b5, b6, b7, b8, b9⟩ := S.2.2 p z1
      rcases z2 with z | z
      · have := b5 j z; omega
      · have := b7 j z; omega
  | succ m ih =>
    intro j hm hj hhi
    obtain ⟨a1, a2, a3, a4, a5, a6, a7, a8, a9⟩ := S.2.2 j hj
    rcases hp : T 2 j with _ | p
    · have := S.2.1 j (a8 hp)
      refine V_aloadN dJ1_getCeilingEntry_68 rfl ?_
      refine V_ifnullN 97 dJ1_getCeilingEntry_70 (by decide) ?_
      refine V_aloadN dJ1_getCeilingEntry_97 rfl ?_
      exact V_aret dJ1_getCeilingEntry_99 rfl rfl (isR.or isR.nn) (by exact K0 (by omega))
    · obtain ⟨z1, z2⟩ := a9 p hp
      obtain ⟨b1, b2, b3, b4, b5, b6, b7, b8, b9⟩ := S.2.2 p z1
      by_cases hr : T 1 p = some j
      · have := b7 j hr
        have ih' := ih p (by omega) z1 (by omega)
        refine V_aload dJ1_getCeilingEntry_68 rfl ?_
        refine V_ifnull dJ1_getCeilingEntry_70 ?_
        refine V_aload dJ1_getCeilingEntry_73 rfl ?_
        refine V_aload dJ1_getCeilingEntry_75 rfl ?_
        refine VT_get 1 (by decide) P z1 dJ1_getCeilingEntry_77 q661 (o := some j) hr ?_
        refine V_acmp_ne (rx := (some (ad j))) (ry := (some (ad j))) 97 dJ1_getCeilingEntry_80 (by decide) (fun c_80 => absurd rfl c_80) (fun _ => ?_)
        refine V_aload dJ1_getCeilingEntry_83 rfl ?_
        refine V_astore dJ1_getCeilingEntry_85 (by decide) ?_
        refine V_aload dJ1_getCeilingEntry_87 rfl ?_
        refine VT_get 2 (by decide) P z1 dJ1_getCeilingEntry_89 q663 (o := T 2 p) rfl ?_
        refine V_astoreG dJ1_getCeilingEntry_92 isR.rf (by decide) ?_
        refine V_goto 68 dJ1_getCeilingEntry_94 (by decide) ?_
        exact ih'
      · have hl : T 0 p = some j := by rcases z2 with z | z; exact z; exact absurd z hr
        have := b5 j hl
        have e : i = p := by omega
        rw [e] at K1
        refine V_aload dJ1_getCeilingEntry_68 rfl ?_
        refine V_ifnull dJ1_getCeilingEntry_70 ?_
        refine V_aload dJ1_getCeilingEntry_73 rfl ?_
        refine V_aload dJ1_getCeilingEntry_75 rfl ?_
        refine VT_get 1 (by decide) P z1 dJ1_getCeilingEntry_77 q661 (o := T 1 p) rfl ?_
        refine V_acmp_ne (rx := (some (ad j))) (ry := (Option.map ad (T 1 p))) 97 dJ1_getCeilingEntry_80 (by decide) (fun c_80 => ?_) (fun c_80 => by exfalso; exact hr (P.opt hj (fun j' e => P.2.2.2.2.1 1 p j' (by decide) z1 e) c_80.symm))
        refine V_aload dJ1_getCeilingEntry_97 rfl ?_
        exact V_aret dJ1_getCeilingEntry_99 rfl rfl (isR.or isR.rr) (by exact K1 (by omega))
theorem ceil_L (P : TH h a n ad K W vs cmp nk sz mc hh T) (S : Tsh n T lo hi) (hk : ∀ i, i < n → cmpOk E (ovl h a hh) cmp key (K i) (c i)) (hs : Srt n c) (K0 : (∀ i, i < n → 0 < c i) → Q .null (ovl h a hh)) (K1 : ∀ i, i < n → c i ≤ 0 → (∀ j, j < i → 0 < c j) → Q (.ref (ad i)) (ovl h a hh)) {l4 l5 : Option Value} : ∀ (m p : Nat) (l3 : Option Value), hi p - lo p ≤ m → p < n → (∀ j, j < lo p → 0 < c j) → (∀ j, hi p ≤ j → j < n → c j < 0) → V E mJ1_getCeilingEntry 5 0 5 [some (.ref a), some (.ref key), some (.ref (ad p)), l3, l4, l5] [] (ovl h a hh) Q X := by
  intro m
  induction m with
  | zero =>
    intro p l3 hm hp
    obtain ⟨a1, a2, -⟩ := S.2.2 p hp
    omega
  | succ m ih =>
    intro p l3 hm hp hlo hhi
    obtain ⟨a1, a2, a3, a4, a5, a6, a7, a8, a9⟩ := S.2.2 p hp
    have ic := (hk p hp).inr
    have up : 0 ≤ c p → ∀ j, j < p → 0 < c j := fun z j hj => hs j p hj hp z
    have dn : c p ≤ 0 → ∀ j, p < j → j < n → c j < 0 := fun z j h1 h2 => Int.not_le.mp (fun z9 => absurd (hs p j h1 h2 z9) (by omega))
    have fin : hi p = p + 1 → 0 < c p → V E mJ1_getCeilingEntry 5 0 68 [some (.ref a), some (.ref key), some (.ref (ad p)), some (vI (c p)), some (va_rf (Option.map ad (T 2 p))), some (.ref (ad p))] [] (ovl h a hh) Q X := fun w2 z => ceil_U P S (i := p + 1) (fun e => K0 (fun j hj => by rcases Nat.lt_trichotomy j p with z | z | z; exact up (by omega) j z; subst z; omega; omega)) (fun e => K1 (p + 1) e (Int.le_of_lt (hhi (p + 1) (by omega) e)) (fun j z1 => by rcases Nat.lt_or_ge j p with z | z; exact up (by omega) j z; have : j = p := (by omega); subst this; omega)) _ p (Nat.le_refl _) hp w2
    have lf : c p ≤ 0 → T 0 p = none → Q (.ref (ad p)) (ovl h a hh) := fun z hl => K1 p hp z (fun j hj => hlo j (by have := a4 hl; omega))
    have eq : c p = 0 → Q (.ref (ad p)) (ovl h a hh) := fun z => K1 p hp (by omega) (up (by omega))
    rcases hl : T 0 p with _ | q <;> rcases hr : T 1 p with _ | q'
    · refine V_aload_n dJ1_getCeilingEntry_5 rfl ?_
      refine V_ifnull dJ1_getCeilingEntry_6 ?_
      refine V_aload_n dJ1_getCeilingEntry_9 rfl ?_
      refine V_aload_n dJ1_getCeilingEntry_10 rfl ?_
      refine V_aload_n dJ1_getCeilingEntry_11 rfl ?_
      refine V_getf okJ16 0 dJ1_getCeilingEntry_12 q656 (by decide) (P.en hp) rfl ?_
      refine V_invVc (M' := mJ1_compare) (As := [.ref key, .ref (K p)]) (rest := []) okJ1_compare dJ1_getCeilingEntry_15 q427 rfl rfl (clsE.o P.ob) rfl rfl (Nat.le_of_ble_eq_true rfl) (d' := 4) (b1 := 0) (by first | decide | omega) (by first | decide | omega) (c_J1_compare P.ob (hk p hp) ?_)
      refine V_istore_n dJ1_getCeilingEntry_18 (by decide) ?_
      refine V_iload_n dJ1_getCeilingEntry_19 rfl ?_
      refine V_if_ge 40 dJ1_getCeilingEntry_20 (by decide) (by first | exact ic | decide) (fun c_20 => ?_) (fun c_20 => ?_)
      · refine V_iload_n dJ1_getCeilingEntry_40 rfl ?_
        refine V_if_le 100 dJ1_getCeilingEntry_41 (by decide) (by first | exact ic | decide) (fun c_41 => ?_) (fun c_41 => ?_)
        · refine V_aload_n dJ1_getCeilingEntry_100 rfl ?_
          exact V_aret dJ1_getCeilingEntry_101 rfl rfl (isR.or isR.rr) (by first | exact lf (by omega) hl | exact eq (by omega))
        · refine V_aload_n dJ1_getCeilingEntry_44 rfl ?_
          refine VT_get 1 (by decide) P hp dJ1_getCeilingEntry_45 q661 (o := none) hr ?_
          refine V_ifnullN 59 dJ1_getCeilingEntry_48 (by decide) ?_
          refine V_aload_n dJ1_getCeilingEntry_59 rfl ?_
          refine VT_get 2 (by decide) P hp dJ1_getCeilingEntry_60 q663 (o := T 2 p) rfl ?_
          refine V_astoreG dJ1_getCeilingEntry_63 isR.rf (by decide) ?_
          refine V_aload_n dJ1_getCeilingEntry_65 rfl ?_
          refine V_astore dJ1_getCeilingEntry_66 (by decide) ?_
          exact fin (a6 hr) (by omega)
      · refine V_aload_n dJ1_getCeilingEntry_23 rfl ?_
        refine VT_get 0 (by decide) P hp dJ1_getCeilingEntry_24 q660 (o := none) hl ?_
        refine V_ifnullN 38 dJ1_getCeilingEntry_27 (by decide) ?_
        refine V_aload_n dJ1_getCeilingEntry_38 rfl ?_
        exact V_aret dJ1_getCeilingEntry_39 rfl rfl (isR.or isR.rr) (by first | exact lf (by omega) hl | exact eq (by omega))
    · obtain ⟨y1, y2, y3, y4, y5⟩ := a7 q' hr
      refine V_aload_n dJ1_getCeilingEntry_5 rfl ?_
      refine V_ifnull dJ1_getCeilingEntry_6 ?_
      refine V_aload_n dJ1_getCeilingEntry_9 rfl ?_
      refine V_aload_n dJ1_getCeilingEntry_10 rfl ?_
      refine V_aload_n dJ1_getCeilingEntry_11 rfl ?_
      refine V_getf okJ16 0 dJ1_getCeilingEntry_12 q656 (by decide) (P.en hp) rfl ?_
      refine V_invVc (M' := mJ1_compare) (As := [.ref key, .ref (K p)]) (rest := []) okJ1_compare dJ1_getCeilingEntry_15 q427 rfl rfl (clsE.o P.ob) rfl rfl (Nat.le_of_ble_eq_true rfl) (d' := 4) (b1 := 0) (by first | decide | omega) (by first | decide | omega) (c_J1_compare P.ob (hk p hp) ?_)
      refine V_istore_n dJ1_getCeilingEntry_18 (by decide) ?_
      refine V_iload_n dJ1_getCeilingEntry_19 rfl ?_
      refine V_if_ge 40 dJ1_getCeilingEntry_20 (by decide) (by first | exact ic | decide) (fun c_20 => ?_) (fun c_20 => ?_)
      · refine V_iload_n dJ1_getCeilingEntry_40 rfl ?_
        refine V_if_le 100 dJ1_getCeilingEntry_41 (by decide) (by first | exact ic | decide) (fun c_41 => ?_) (fun c_41 => ?_)
        · refine V_aload_n dJ1_getCeilingEntry_100 rfl ?_
          exact V_aret dJ1_getCeilingEntry_101 rfl rfl (isR.or isR.rr) (by first | exact lf (by omega) hl | exact eq (by omega))
        · refine V_aload_n dJ1_getCeilingEntry_44 rfl ?_
          refine VT_get 1 (by decide) P hp dJ1_getCeilingEntry_45 q661 (o := some q') hr ?_
          refine V_ifnull dJ1_getCeilingEntry_48 ?_
          refine V_aload_n dJ1_getCeilingEntry_51 rfl ?_
          refine VT_get 1 (by decide) P hp dJ1_getCeilingEntry_52 q661 (o := some q') hr ?_
          refine V_astore_n dJ1_getCeilingEntry_55 (by decide) ?_
          refine V_goto 102 dJ1_getCeilingEntry_56 (by decide) ?_
          refine V_goto 5 dJ1_getCeilingEntry_102 (by decide) ?_
          exact ih q' _ (by omega) y2 (fun j hj => by rcases Nat.lt_trichotomy j p with z | z | z; exact up (by omega) j z; subst z; omega; omega) (fun j z1 z2 => hhi j (by omega) z2)
      · refine V_aload_n dJ1_getCeilingEntry_23 rfl ?_
        refine VT_get 0 (by decide) P hp dJ1_getCeilingEntry_24 q660 (o := none) hl ?_
        refine V_ifnullN 38 dJ1_getCeilingEntry_27 (by decide) ?_
        refine V_aload_n dJ1_getCeilingEntry_38 rfl ?_
        exact V_aret dJ1_getCeilingEntry_39 rfl rfl (isR.or isR.rr) (by first | exact lf (by omega) hl | exact eq (by omega))
    · obtain ⟨y1, y3, y4, y5⟩ := a5 q hl
      refine V_aload_n dJ1_getCeilingEntry_5 rfl ?_
      refine V_ifnull dJ1_getCeilingEntry_6 ?_
      refine V_aload_n dJ1_getCeilingEntry_9 rfl ?_
      refine V_aload_n dJ1_getCeilingEntry_10 rfl ?_
      refine V_aload_n dJ1_getCeilingEntry_11 rfl ?_
      refine V_getf okJ16 0 dJ1_getCeilingEntry_12 q656 (by decide) (P.en hp) rfl ?_
      refine V_invVc (M' := mJ1_compare) (As := [.ref key, .ref (K p)]) (rest := []) okJ1_compare dJ1_getCeilingEntry_15 q427 rfl rfl (clsE.o P.ob) rfl rfl (Nat.le_of_ble_eq_true rfl) (d' := 4) (b1 := 0) (by first | decide | omega) (by first | decide | omega) (c_J1_compare P.ob (hk p hp) ?_)
      refine V_istore_n dJ1_getCeilingEntry_18 (by decide) ?_
      refine V_iload_n dJ1_getCeilingEntry_19 rfl ?_
      refine V_if_ge 40 dJ1_getCeilingEntry_20 (by decide) (by first | exact ic | decide) (fun c_20 => ?_) (fun c_20 => ?_)
      · refine V_iload_n dJ1_getCeilingEntry_40 rfl ?_
        refine V_if_le 100 dJ1_getCeilingEntry_41 (by decide) (by first | exact ic | decide) (fun c_41 => ?_) (fun c_41 => ?_)
        · refine V_aload_n dJ1_getCeilingEntry_100 rfl ?_
          exact V_aret dJ1_getCeilingEntry_101 rfl rfl (isR.or isR.rr) (by exact eq (by omega))
        · refine V_aload_n dJ1_getCeilingEntry_44 rfl ?_
          refine VT_get 1 (by decide) P hp dJ1_getCeilingEntry_45 q661 (o := none) hr ?_
          refine V_ifnullN 59 dJ1_getCeilingEntry_48 (by decide) ?_
          refine V_aload_n dJ1_getCeilingEntry_59 rfl ?_
          refine VT_get 2 (by decide) P hp dJ1_getCeilingEntry_60 q663 (o := T 2 p) rfl ?_
          refine V_astoreG dJ1_getCeilingEntry_63 isR.rf (by decide) ?_
          refine V_aload_n dJ1_getCeilingEntry_65 rfl ?_
          refine V_astore dJ1_getCeilingEntry_66 (by decide) ?_
          exact fin (a6 hr) (by omega)
      · refine V_aload_n dJ1_getCeilingEntry_23 rfl ?_
        refine VT_get 0 (by decide) P hp dJ1_getCeilingEntry_24 q660 (o := some q) hl ?_
        refine V_ifnull dJ1_getCeilingEntry_27 ?_
        refine V_aload_n dJ1_getCeilingEntry_30 rfl ?_
        refine VT_get 0 (by decide) P hp dJ1_getCeilingEntry_31 q660 (o := some q) hl ?_
        refine V_astore_n dJ1_getCeilingEntry_34 (by decide) ?_
        refine V_goto 102 dJ1_getCeilingEntry_35 (by decide) ?_
        refine V_goto 5 dJ1_getCeilingEntry_102 (by decide) ?_
        exact ih q _ (by omega) (by omega) (fun j hj => hlo j (by omega)) (fun j z1 z2 => by rcases Nat.lt_or_ge p j with z | z; exact dn (by omega) j z z2; have : j = p := (by omega); subst this; omega)
    · obtain ⟨y1, y2, y3, y4, y5⟩ := a7 q' hr
      obtain ⟨x1, x3, x4, x5⟩ := a5 q hl
      refine V_aload_n dJ1_getCeilingEntry_5 rfl ?_
      refine V_ifnull dJ1_getCeilingEntry_6 ?_
      refine V_aload_n dJ1_getCeilingEntry_9 rfl ?_
      refine V_aload_n dJ1_getCeilingEntry_10 rfl ?_
      refine V_aload_n dJ1_getCeilingEntry_11 rfl ?_
      refine V_getf okJ16 0 dJ1_getCeilingEntry_12 q656 (by decide) (P.en hp) rfl ?_
      refine V_invVc (M' := mJ1_compare) (As := [.ref key, .ref (K p)]) (rest := []) okJ1_compare dJ1_getCeilingEntry_15 q427 rfl rfl (clsE.o P.ob) rfl rfl (Nat.le_of_ble_eq_true rfl) (d' := 4) (b1 := 0) (by first | decide | omega) (by first | decide | omega) (c_J1_compare P.ob (hk p hp) ?_)
      refine V_istore_n dJ1_getCeilingEntry_18 (by decide) ?_
      refine V_iload_n dJ1_getCeilingEntry_19 rfl ?_
      refine V_if_ge 40 dJ1_getCeilingEntry_20 (by decide) (by first | exact ic | decide) (fun c_20 => ?_) (fun c_20 => ?_)
      · refine V_iload_n dJ1_getCeilingEntry_40 rfl ?_
        refine V_if_le 100 dJ1_getCeilingEntry_41 (by decide) (by first | exact ic | decide) (fun c_41 => ?_) (fun c_41 => ?_)
        · refine V_aload_n dJ1_getCeilingEntry_100 rfl ?_
          exact V_aret dJ1_getCeilingEntry_101 rfl rfl (isR.or isR.rr) (by exact eq (by omega))
        · refine V_aload_n dJ1_getCeilingEntry_44 rfl ?_
          refine VT_get 1 (by decide) P hp dJ1_getCeilingEntry_45 q661 (o := some q') hr ?_
          refine V_ifnull dJ1_getCeilingEntry_48 ?_
          refine V_aload_n dJ1_getCeilingEntry_51 rfl ?_
          refine VT_get 1 (by decide) P hp dJ1_getCeilingEntry_52 q661 (o := some q') hr ?_
          refine V_astore_n dJ1_getCeilingEntry_55 (by decide) ?_
          refine V_goto 102 dJ1_getCeilingEntry_56 (by decide) ?_
          refine V_goto 5 dJ1_getCeilingEntry_102 (by decide) ?_
          first | exact ih q' _ (by omega) y2 (fun j hj => by rcases Nat.lt_trichotomy j p with z | z | z; exact up (by omega) j z; subst z; omega; omega) (fun j z1 z2 => hhi j (by omega) z2) | exact ih q _ (by omega) (by omega) (fun j hj => hlo j (by omega)) (fun j z1 z2 => by rcases Nat.lt_or_ge p j with z | z; exact dn (by omega) j z z2; have : j = p := (by omega); subst this; omega)
      · refine V_aload_n dJ1_getCeilingEntry_23 rfl ?_
        refine VT_get 0 (by decide) P hp dJ1_getCeilingEntry_24 q660 (o := some q) hl ?_
        refine V_ifnull dJ1_getCeilingEntry_27 ?_
        refine V_aload_n dJ1_getCeilingEntry_30 rfl ?_
        refine VT_get 0 (by decide) P hp dJ1_getCeilingEntry_31 q660 (o := some q) hl ?_
        refine V_astore_n dJ1_getCeilingEntry_34 (by decide) ?_
        refine V_goto 102 dJ1_getCeilingEntry_35 (by decide) ?_
        refine V_goto 5 dJ1_getCeilingEntry_102 (by decide) ?_
        first | exact ih q' _ (by omega) y2 (fun j hj => by rcases Nat.lt_trichotomy j p with z | z | z; exact up (by omega) j z; subst z; omega; omega) (fun j z1 z2 => hhi j (by omega) z2) | exact ih q _ (by omega) (by omega) (fun j hj => hlo j (by omega)) (fun j z1 z2 => by rcases Nat.lt_or_ge p j with z | z; exact dn (by omega) j z z2; have : j = p := (by omega); subst this; omega)
theorem c_J1_getCeilingEntry (P : TH h a n ad K W vs cmp nk sz mc hh T) (S : Tsh n T lo hi) (hk : ∀ i, i < n → cmpOk E (ovl h a hh) cmp key (K i) (c i)) (hs : Srt n c) (K0 : (∀ i, i < n → 0 < c i) → Q .null (ovl h a hh)) (K1 : ∀ i, i < n → c i ≤ 0 → (∀ j, j < i → 0 < c j) → Q (.ref (ad i)) (ovl h a hh)) : V E mJ1_getCeilingEntry 5 0 0 [some (.ref a), some (.ref key), none, none, none, none] [] (ovl h a hh) Q X := by
  rcases hr : T 3 0 with _ | r
  · refine V_aload_n dJ1_getCeilingEntry_0 rfl ?_
    refine VT_getRoot P dJ1_getCeilingEntry_1 q190 (o := none) hr ?_
    refine V_astore_nN dJ1_getCeilingEntry_4 (by decide) ?_
    refine V_aload_nN dJ1_getCeilingEntry_5 rfl ?_
    refine V_ifnullN 105 dJ1_getCeilingEntry_6 (by decide) ?_
    refine V_null dJ1_getCeilingEntry_105 ?_
    exact V_aret dJ1_getCeilingEntry_106 rfl rfl (Or.inl rfl) (by exact K0 (fun i hi => absurd (S.1 hr) (by omega)))
  · obtain ⟨b1, b2, b3, b4⟩ := S.2.1 r hr
    refine V_aload_n dJ1_getCeilingEntry_0 rfl ?_
    refine VT_getRoot P dJ1_getCeilingEntry_1 q190 (o := some r) hr ?_
    refine V_astore_n dJ1_getCeilingEntry_4 (by decide) ?_
    exact ceil_L P S hk hs K0 K1 _ r _ (Nat.le_refl _) b1 (fun j hj => by omega) (fun j z1 z2 => by omega)
theorem c_J8_compareToE {x y : Int} {k2 : Nat} (e : k2 = iA E y) (hx : -128 ≤ x ∧ x ≤ 127) (hy : -128 ≤ y ∧ y ≤ 127) (K : Q (vI (iCmp x y)) h) : V E mJ8_compareTo 3 0 0 [some (.ref (iA E x)), some (.ref k2)] [] h Q X := by subst e; exact c_J8_compareTo hx hy K
theorem c_J17_requireNonNull (K : Q (.ref a) h) : V E mJ17_requireNonNull 0 0 0 [some (.ref a)] [] h Q X := by
  refine V_aload_n dJ17_requireNonNull_0 rfl ?_
  refine V_ifnonnull 12 dJ17_requireNonNull_1 (by decide) ?_
  refine V_aload_n dJ17_requireNonNull_12 rfl ?_
  exact V_aret dJ17_requireNonNull_13 rfl rfl (Or.inr ⟨_, rfl⟩) (by exact K)
theorem iCmp_lt {a b : Int} : iCmp a b < 0 ↔ a < b := by unfold iCmp; split <;> (try split) <;> omega
theorem iCmp_gt {a b : Int} : 0 < iCmp a b ↔ b < a := by unfold iCmp; split <;> (try split) <;> omega
theorem iCmp_eq {a b : Int} : iCmp a b = 0 ↔ a = b := by unfold iCmp; split <;> (try split) <;> omega
theorem get_N {l0 l1 l2 l4 : Option Value} (K : Q .null h) : V E mJ1_getEntry 4 0 28 [l0, l1, l2, some .null, l4] [] h Q X := by
  refine V_aload_nN dJ1_getEntry_28 rfl ?_
  refine V_ifnullN 75 dJ1_getEntry_29 (by decide) ?_
  refine V_null dJ1_getEntry_75 ?_
  exact V_aret dJ1_getEntry_76 rfl rfl (Or.inl rfl) (by exact K)
theorem get_L (P : TH h a n ad K W vs .null nk sz mc hh T) (S : Tsh n T lo hi) {x : Int} {y : Nat → Int} (hx : -128 ≤ x ∧ x ≤ 127) (hy : ∀ i, i < n → K i = iA E (y i) ∧ -128 ≤ y i ∧ y i ≤ 127) (hs : ∀ i j : Nat, i < j → j < n → y i < y j) (K0 : (∀ i, i < n → y i ≠ x) → Q .null (ovl h a hh)) (K1 : ∀ i, i < n → y i = x → Q (.ref (ad i)) (ovl h a hh)) {l1 : Option Value} : ∀ (m p : Nat) (l4 : Option Value), hi p - lo p ≤ m → p < n → (∀ j, j < lo p → y j < x) → (∀ j, hi p ≤ j → j < n → x < y j) → V E mJ1_getEntry 4 0 28 [some (.ref a), l1, some (.ref (iA E x)), some (.ref (ad p)), l4] [] (ovl h a hh) Q X := by
  intro m
  induction m with
  | zero =>
    intro p l3 hm hp
    obtain ⟨a1, a2, -⟩ := S.2.2 p hp
    omega
  | succ m ih =>
    intro p l3 hm hp hlo hhi
    obtain ⟨a1, a2, a3, a4, a5, a6, a7, a8, a9⟩ := S.2.2 p hp
    have hyp := hy p hp
    have up : ∀ j, j < p → y j < y p := fun j hj => hs j p hj hp
    have dn : ∀ j, p < j → j < n → y p < y j := fun j h1 h2 => hs p j h1 h2
    have hlt := iCmp_lt (a := x) (b := y p)
    have hgt := iCmp_gt (a := x) (b := y p)
    have heq := iCmp_eq (a := x) (b := y p)
    rcases hl : T 0 p with _ | q <;> rcases hr : T 1 p with _ | q'
    · refine V_aload_n dJ1_getEntry_28 rfl ?_
      refine V_ifnull dJ1_getEntry_29 ?_
      refine V_aload_n dJ1_getEntry_32 rfl ?_
      refine V_aload_n dJ1_getEntry_33 rfl ?_
      refine V_getf okJ16 0 dJ1_getEntry_34 q656 (by decide) (P.en hp) rfl ?_
      refine V_invF (M' := mJ8_compareTo) (As := [.ref (K p)]) (rest := []) (C0 := "java/lang/Integer") (x := ⟨"java/lang/Comparable", "compareTo", "(Ljava/lang/Object;)I"⟩) okmJ8_compareTo (show OkX "java/lang/Comparable" ⟨"java/lang/Comparable", "compareTo", "(Ljava/lang/Object;)I"⟩ 1 from ⟨by decide +kernel, by decide +kernel, by decide +kernel⟩) dJ1_getEntry_37 q433 q451 (List.mem_append_left _ q435) (List.mem_append_left _ q434) (List.mem_append_left _ q454) (List.mem_append_left _ q452) (List.mem_append_left _ q450) rfl rfl (Or.inr ⟨_, (cst.int hx.1 hx.2)⟩) rfl rfl (Nat.le_of_ble_eq_true rfl) (d' := 3) (b1 := 0) (by first | decide | omega) (by first | decide | omega) (c_J8_compareToE hyp.1 hx hyp.2 ?_)
      refine V_istore dJ1_getEntry_42 (by decide) ?_
      refine V_iload dJ1_getEntry_44 rfl ?_
      refine V_if_ge 57 dJ1_getEntry_46 (by decide) (by first | exact iCmp_i _ _ | decide) (fun c_46 => ?_) (fun c_46 => ?_)
      · refine V_iload dJ1_getEntry_57 rfl ?_
        refine V_if_le 70 dJ1_getEntry_59 (by decide) (by first | exact iCmp_i _ _ | decide) (fun c_59 => ?_) (fun c_59 => ?_)
        · refine V_aload_n dJ1_getEntry_70 rfl ?_
          exact V_aret dJ1_getEntry_71 rfl rfl (isR.or isR.rr) (by first | exact K1 p hp (by omega) | exact K0 (fun j hj => by rcases Nat.lt_trichotomy j p with z | z | z; (first | (have := up j z; omega) | (have := hlo j (by have := a4 hl; omega); omega)); subst z; omega; (first | (have := dn j z hj; omega) | (have := hhi j (by have := a6 hr; omega) hj; omega))))
        · refine V_aload_n dJ1_getEntry_62 rfl ?_
          refine VT_get 1 (by decide) P hp dJ1_getEntry_63 q661 (o := none) hr ?_
          refine V_astore_nN dJ1_getEntry_66 (by decide) ?_
          refine V_goto 72 dJ1_getEntry_67 (by decide) ?_
          refine V_goto 28 dJ1_getEntry_72 (by decide) ?_
          refine V_aload_nN dJ1_getEntry_28 rfl ?_
          refine V_ifnullN 75 dJ1_getEntry_29 (by decide) ?_
          refine V_null dJ1_getEntry_75 ?_
          exact V_aret dJ1_getEntry_76 rfl rfl (Or.inl rfl) (by first | exact K1 p hp (by omega) | exact K0 (fun j hj => by rcases Nat.lt_trichotomy j p with z | z | z; (first | (have := up j z; omega) | (have := hlo j (by have := a4 hl; omega); omega)); subst z; omega; (first | (have := dn j z hj; omega) | (have := hhi j (by have := a6 hr; omega) hj; omega))))
      · refine V_aload_n dJ1_getEntry_49 rfl ?_
        refine VT_get 0 (by decide) P hp dJ1_getEntry_50 q660 (o := none) hl ?_
        refine V_astore_nN dJ1_getEntry_53 (by decide) ?_
        refine V_goto 72 dJ1_getEntry_54 (by decide) ?_
        refine V_goto 28 dJ1_getEntry_72 (by decide) ?_
        refine V_aload_nN dJ1_getEntry_28 rfl ?_
        refine V_ifnullN 75 dJ1_getEntry_29 (by decide) ?_
        refine V_null dJ1_getEntry_75 ?_
        exact V_aret dJ1_getEntry_76 rfl rfl (Or.inl rfl) (by first | exact K1 p hp (by omega) | exact K0 (fun j hj => by rcases Nat.lt_trichotomy j p with z | z | z; (first | (have := up j z; omega) | (have := hlo j (by have := a4 hl; omega); omega)); subst z; omega; (first | (have := dn j z hj; omega) | (have := hhi j (by have := a6 hr; omega) hj; omega))))
    · obtain ⟨y1, y2, y3, y4, y5⟩ := a7 q' hr
      refine V_aload_n dJ1_getEntry_28 rfl ?_
      refine V_ifnull dJ1_getEntry_29 ?_
      refine V_aload_n dJ1_getEntry_32 rfl ?_
      refine V_aload_n dJ1_getEntry_33 rfl ?_
      refine V_getf okJ16 0 dJ1_getEntry_34 q656 (by decide) (P.en hp) rfl ?_
      refine V_invF (M' := mJ8_compareTo) (As := [.ref (K p)]) (rest := []) (C0 := "java/lang/Integer") (x := ⟨"java/lang/Comparable", "compareTo", "(Ljava/lang/Object;)I"⟩) okmJ8_compareTo (show OkX "java/lang/Comparable" ⟨"java/lang/Comparable", "compareTo", "(Ljava/lang/Object;)I"⟩ 1 from ⟨by decide +kernel, by decide +kernel, by decide +kernel⟩) dJ1_getEntry_37 q433 q451 (List.mem_append_left _ q435) (List.mem_append_left _ q434) (List.mem_append_left _ q454) (List.mem_append_left _ q452) (List.mem_append_left _ q450) rfl rfl (Or.inr ⟨_, (cst.int hx.1 hx.2)⟩) rfl rfl (Nat.le_of_ble_eq_true rfl) (d' := 3) (b1 := 0) (by first | decide | omega) (by first | decide | omega) (c_J8_compareToE hyp.1 hx hyp.2 ?_)
      refine V_istore dJ1_getEntry_42 (by decide) ?_
      refine V_iload dJ1_getEntry_44 rfl ?_
      refine V_if_ge 57 dJ1_getEntry_46 (by decide) (by first | exact iCmp_i _ _ | decide) (fun c_46 => ?_) (fun c_46 => ?_)
      · refine V_iload dJ1_getEntry_57 rfl ?_
        refine V_if_le 70 dJ1_getEntry_59 (by decide) (by first | exact iCmp_i _ _ | decide) (fun c_59 => ?_) (fun c_59 => ?_)
        · refine V_aload_n dJ1_getEntry_70 rfl ?_
          exact V_aret dJ1_getEntry_71 rfl rfl (isR.or isR.rr) (by first | exact K1 p hp (by omega) | exact K0 (fun j hj => by rcases Nat.lt_trichotomy j p with z | z | z; (first | (have := up j z; omega) | (have := hlo j (by have := a4 hl; omega); omega)); subst z; omega; (first | (have := dn j z hj; omega) | (have := hhi j (by have := a6 hr; omega) hj; omega))))
        · refine V_aload_n dJ1_getEntry_62 rfl ?_
          refine VT_get 1 (by decide) P hp dJ1_getEntry_63 q661 (o := some q') hr ?_
          refine V_astore_n dJ1_getEntry_66 (by decide) ?_
          refine V_goto 72 dJ1_getEntry_67 (by decide) ?_
          refine V_goto 28 dJ1_getEntry_72 (by decide) ?_
          first | exact ih q' _ (by omega) y2 (fun j hj => by rcases Nat.lt_trichotomy j p with z | z | z; have := up j z; omega; subst z; omega; omega) (fun j z1 z2 => hhi j (by omega) z2) | exact get_N (by exact K0 (fun j hj => by rcases Nat.lt_trichotomy j p with z | z | z; (first | (have := up j z; omega) | (have := hlo j (by have := a4 hl; omega); omega)); subst z; omega; (first | (have := dn j z hj; omega) | (have := hhi j (by have := a6 hr; omega) hj; omega))))
      · refine V_aload_n dJ1_getEntry_49 rfl ?_
        refine VT_get 0 (by decide) P hp dJ1_getEntry_50 q660 (o := none) hl ?_
        refine V_astore_nN dJ1_getEntry_53 (by decide) ?_
        refine V_goto 72 dJ1_getEntry_54 (by decide) ?_
        refine V_goto 28 dJ1_getEntry_72 (by decide) ?_
        first | exact ih q' _ (by omega) y2 (fun j hj => by rcases Nat.lt_trichotomy j p with z | z | z; have := up j z; omega; subst z; omega; omega) (fun j z1 z2 => hhi j (by omega) z2) | exact get_N (by exact K0 (fun j hj => by rcases Nat.lt_trichotomy j p with z | z | z; (first | (have := up j z; omega) | (have := hlo j (by have := a4 hl; omega); omega)); subst z; omega; (first | (have := dn j z hj; omega) | (have := hhi j (by have := a6 hr; omega) hj; omega))))
    · obtain ⟨x1, x3, x4, x5⟩ := a5 q hl
      refine V_aload_n dJ1_getEntry_28 rfl ?_
      refine V_ifnull dJ1_getEntry_29 ?_
      refine V_aload_n dJ1_getEntry_32 rfl ?_
      refine V_aload_n dJ1_getEntry_33 rfl ?_
      refine V_getf okJ16 0 dJ1_getEntry_34 q656 (by decide) (P.en hp) rfl ?_
      refine V_invF (M' := mJ8_compareTo) (As := [.ref (K p)]) (rest := []) (C0 := "java/lang/Integer") (x := ⟨"java/lang/Comparable", "compareTo", "(Ljava/lang/Object;)I"⟩) okmJ8_compareTo (show OkX "java/lang/Comparable" ⟨"java/lang/Comparable", "compareTo", "(Ljava/lang/Object;)I"⟩ 1 from ⟨by decide +kernel, by decide +kernel, by decide +kernel⟩) dJ1_getEntry_37 q433 q451 (List.mem_append_left _ q435) (List.mem_append_left _ q434) (List.mem_append_left _ q454) (List.mem_append_left _ q452) (List.mem_append_left _ q450) rfl rfl (Or.inr ⟨_, (cst.int hx.1 hx.2)⟩) rfl rfl (Nat.le_of_ble_eq_true rfl) (d' := 3) (b1 := 0) (by first | decide | omega) (by first | decide | omega) (c_J8_compareToE hyp.1 hx hyp.2 ?_)
      refine V_istore dJ1_getEntry_42 (by decide) ?_
      refine V_iload dJ1_getEntry_44 rfl ?_
      refine V_if_ge 57 dJ1_getEntry_46 (by decide) (by first | exact iCmp_i _ _ | decide) (fun c_46 => ?_) (fun c_46 => ?_)
      · refine V_iload dJ1_getEntry_57 rfl ?_
        refine V_if_le 70 dJ1_getEntry_59 (by decide) (by first | exact iCmp_i _ _ | decide) (fun c_59 => ?_) (fun c_59 => ?_)
        · refine V_aload_n dJ1_getEntry_70 rfl ?_
          exact V_aret dJ1_getEntry_71 rfl rfl (isR.or isR.rr) (by first | exact K1 p hp (by omega) | exact K0 (fun j hj => by rcases Nat.lt_trichotomy j p with z | z | z; (first | (have := up j z; omega) | (have := hlo j (by have := a4 hl; omega); omega)); subst z; omega; (first | (have := dn j z hj; omega) | (have := hhi j (by have := a6 hr; omega) hj; omega))))
        · refine V_aload_n dJ1_getEntry_62 rfl ?_
          refine VT_get 1 (by decide) P hp dJ1_getEntry_63 q661 (o := none) hr ?_
          refine V_astore_nN dJ1_getEntry_66 (by decide) ?_
          refine V_goto 72 dJ1_getEntry_67 (by decide) ?_
          refine V_goto 28 dJ1_getEntry_72 (by decide) ?_
          first | exact ih q _ (by omega) (by omega) (fun j hj => hlo j (by omega)) (fun j z1 z2 => by rcases Nat.lt_or_ge p j with z | z; have := dn j z z2; omega; have : j = p := (by omega); subst this; omega) | exact get_N (by exact K0 (fun j hj => by rcases Nat.lt_trichotomy j p with z | z | z; (first | (have := up j z; omega) | (have := hlo j (by have := a4 hl; omega); omega)); subst z; omega; (first | (have := dn j z hj; omega) | (have := hhi j (by have := a6 hr; omega) hj; omega))))
      · refine V_aload_n dJ1_getEntry_49 rfl ?_
        refine VT_get 0 (by decide) P hp dJ1_getEntry_50 q660 (o := some q) hl ?_
        refine V_astore_n dJ1_getEntry_53 (by decide) ?_
        refine V_goto 72 dJ1_getEntry_54 (by decide) ?_
        refine V_goto 28 dJ1_getEntry_72 (by decide) ?_
        first | exact ih q _ (by omega) (by omega) (fun j hj => hlo j (by omega)) (fun j z1 z2 => by rcases Nat.lt_or_ge p j with z | z; have := dn j z z2; omega; have : j = p := (by omega); subst this; omega) | exact get_N (by exact K0 (fun j hj => by rcases Nat.lt_trichotomy j p with z | z | z; (first | (have := up j z; omega) | (have := hlo j (by have := a4 hl; omega); omega)); subst z; omega; (first | (have := dn j z hj; omega) | (have := hhi j (by have := a6 hr; omega) hj; omega))))
    · obtain ⟨y1, y2, y3, y4, y5⟩ := a7 q' hr
      obtain ⟨x1, x3, x4, x5⟩ := a5 q hl
      refine V_aload_n dJ1_getEntry_28 rfl ?_
      refine V_ifnull dJ1_getEntry_29 ?_
      refine V_aload_n dJ1_getEntry_32 rfl ?_
      refine V_aload_n dJ1_getEntry_33 rfl ?_
      refine V_getf okJ16 0 dJ1_getEntry_34 q656 (by decide) (P.en hp) rfl ?_
      refine V_invF (M' := mJ8_compareTo) (As := [.ref (K p)]) (rest := []) (C0 := "java/lang/Integer") (x := ⟨"java/lang/Comparable", "compareTo", "(Ljava/lang/Object;)I"⟩) okmJ8_compareTo (show OkX "java/lang/Comparable" ⟨"java/lang/Comparable", "compareTo", "(Ljava/lang/Object;)I"⟩ 1 from ⟨by decide +kernel, by decide +kernel, by decide +kernel⟩) dJ1_getEntry_37 q433 q451 (List.mem_append_left _ q435) (List.mem_append_left _ q434) (List.mem_append_left _ q454) (List.mem_append_left _ q452) (List.mem_append_left _ q450) rfl rfl (Or.inr ⟨_, (cst.int hx.1 hx.2)⟩) rfl rfl (Nat.le_of_ble_eq_true rfl) (d' := 3) (b1 := 0) (by first | decide | omega) (by first | decide | omega) (c_J8_compareToE hyp.1 hx hyp.2 ?_)
      refine V_istore dJ1_getEntry_42 (by decide) ?_
      refine V_iload dJ1_getEntry_44 rfl ?_
      refine V_if_ge 57 dJ1_getEntry_46 (by decide) (by first | exact iCmp_i _ _ | decide) (fun c_46 => ?_) (fun c_46 => ?_)
      · refine V_iload dJ1_getEntry_57 rfl ?_
        refine V_if_le 70 dJ1_getEntry_59 (by decide) (by first | exact iCmp_i _ _ | decide) (fun c_59 => ?_) (fun c_59 => ?_)
        · refine V_aload_n dJ1_getEntry_70 rfl ?_
          exact V_aret dJ1_getEntry_71 rfl rfl (isR.or isR.rr) (by first | exact K1 p hp (by omega) | exact K0 (fun j hj => by rcases Nat.lt_trichotomy j p with z | z | z; (first | (have := up j z; omega) | (have := hlo j (by have := a4 hl; omega); omega)); subst z; omega; (first | (have := dn j z hj; omega) | (have := hhi j (by have := a6 hr; omega) hj; omega))))
        · refine V_aload_n dJ1_getEntry_62 rfl ?_
          refine VT_get 1 (by decide) P hp dJ1_getEntry_63 q661 (o := some q') hr ?_
          refine V_astore_n dJ1_getEntry_66 (by decide) ?_
          refine V_goto 72 dJ1_getEntry_67 (by decide) ?_
          refine V_goto 28 dJ1_getEntry_72 (by decide) ?_
          first | exact ih q' _ (by omega) y2 (fun j hj => by rcases Nat.lt_trichotomy j p with z | z | z; have := up j z; omega; subst z; omega; omega) (fun j z1 z2 => hhi j (by omega) z2) | exact ih q _ (by omega) (by omega) (fun j hj => hlo j (by omega)) (fun j z1 z2 => by rcases Nat.lt_or_ge p j with z | z; have := dn j z z2; omega; have : j = p := (by omega); subst this; omega) | exact get_N (by exact K0 (fun j hj => by rcases Nat.lt_trichotomy j p with z | z | z; (first | (have := up j z; omega) | (have := hlo j (by have := a4 hl; omega); omega)); subst z; omega; (first | (have := dn j z hj; omega) | (have := hhi j (by have := a6 hr; omega) hj; omega))))
      · refine V_aload_n dJ1_getEntry_49 rfl ?_
        refine VT_get 0 (by decide) P hp dJ1_getEntry_50 q660 (o := some q) hl ?_
        refine V_astore_n dJ1_getEntry_53 (by decide) ?_
        refine V_goto 72 dJ1_getEntry_54 (by decide) ?_
        refine V_goto 28 dJ1_getEntry_72 (by decide) ?_
        first | exact ih q' _ (by omega) y2 (fun j hj => by rcases Nat.lt_trichotomy j p with z | z | z; have := up j z; omega; subst z; omega; omega) (fun j z1 z2 => hhi j (by omega) z2) | exact ih q _ (by omega) (by omega) (fun j hj => hlo j (by omega)) (fun j z1 z2 => by rcases Nat.lt_or_ge p j with z | z; have := dn j z z2; omega; have : j = p := (by omega); subst this; omega) | exact get_N (by exact K0 (fun j hj => by rcases Nat.lt_trichotomy j p with z | z | z; (first | (have := up j z; omega) | (have := hlo j (by have := a4 hl; omega); omega)); subst z; omega; (first | (have := dn j z hj; omega) | (have := hhi j (by have := a6 hr; omega) hj; omega))))
theorem c_J1_getEntry (P : TH h a n ad K W vs .null nk sz mc hh T) (S : Tsh n T lo hi) {x : Int} {y : Nat → Int} (hx : -128 ≤ x ∧ x ≤ 127) (hy : ∀ i, i < n → K i = iA E (y i) ∧ -128 ≤ y i ∧ y i ≤ 127) (hs : ∀ i j : Nat, i < j → j < n → y i < y j) (K0 : (∀ i, i < n → y i ≠ x) → Q .null (ovl h a hh)) (K1 : ∀ i, i < n → y i = x → Q (.ref (ad i)) (ovl h a hh)) : V E mJ1_getEntry 4 0 0 [some (.ref a), some (.ref (iA E x)), none, none, none] [] (ovl h a hh) Q X := by
  rcases hr : T 3 0 with _ | r
  · refine V_aload_n dJ1_getEntry_0 rfl ?_
    refine V_getf okJ1 2 dJ1_getEntry_1 q189 (by decide) P.ob rfl ?_
    refine V_ifnullN 13 dJ1_getEntry_4 (by decide) ?_
    refine V_aload_n dJ1_getEntry_13 rfl ?_
    refine V_invS (M' := mJ17_requireNonNull) (As := [.ref (iA E x)]) (rest := []) okJ17_requireNonNull dJ1_getEntry_14 q679 rfl rfl rfl (Nat.le_of_ble_eq_true rfl) (d' := 0) (b1 := 0) (by first | decide | omega) (by first | decide | omega) (c_J17_requireNonNull ?_)
    refine V_pop dJ1_getEntry_17 rfl ?_
    refine V_aload_n dJ1_getEntry_18 rfl ?_
    refine V_castY dJ1_getEntry_19 q431 rfl (List.mem_append_left _ q450) (Or.inr ⟨_, (cst.int hx.1 hx.2)⟩) ?_
    refine V_astore_n dJ1_getEntry_22 (by decide) ?_
    refine V_aload_n dJ1_getEntry_23 rfl ?_
    refine VT_getRoot P dJ1_getEntry_24 q190 (o := none) hr ?_
    refine V_astore_nN dJ1_getEntry_27 (by decide) ?_
    refine V_aload_nN dJ1_getEntry_28 rfl ?_
    refine V_ifnullN 75 dJ1_getEntry_29 (by decide) ?_
    refine V_null dJ1_getEntry_75 ?_
    exact V_aret dJ1_getEntry_76 rfl rfl (Or.inl rfl) (by exact K0 (fun i hi => absurd (S.1 hr) (by omega)))
  · obtain ⟨b1, b2, b3, b4⟩ := S.2.1 r hr
    refine V_aload_n dJ1_getEntry_0 rfl ?_
    refine V_getf okJ1 2 dJ1_getEntry_1 q189 (by decide) P.ob rfl ?_
    refine V_ifnullN 13 dJ1_getEntry_4 (by decide) ?_
    refine V_aload_n dJ1_getEntry_13 rfl ?_
    refine V_invS (M' := mJ17_requireNonNull) (As := [.ref (iA E x)]) (rest := []) okJ17_requireNonNull dJ1_getEntry_14 q679 rfl rfl rfl (Nat.le_of_ble_eq_true rfl) (d' := 0) (b1 := 0) (by first | decide | omega) (by first | decide | omega) (c_J17_requireNonNull ?_)
    refine V_pop dJ1_getEntry_17 rfl ?_
    refine V_aload_n dJ1_getEntry_18 rfl ?_
    refine V_castY dJ1_getEntry_19 q431 rfl (List.mem_append_left _ q450) (Or.inr ⟨_, (cst.int hx.1 hx.2)⟩) ?_
    refine V_astore_n dJ1_getEntry_22 (by decide) ?_
    refine V_aload_n dJ1_getEntry_23 rfl ?_
    refine VT_getRoot P dJ1_getEntry_24 q190 (o := some r) hr ?_
    refine V_astore_n dJ1_getEntry_27 (by decide) ?_
    exact get_L P S hx hy hs K0 K1 _ r _ (Nat.le_refl _) b1 (fun j hj => by omega) (fun j z1 z2 => by omega)
end TM9
