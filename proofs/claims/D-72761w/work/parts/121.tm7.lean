/-! TREES: looking for entries -/
/-- keys in their order: a key compared with all of them -/
def Srt (n : Nat) (c : Nat → Int) : Prop := ∀ i j : Nat, i < j → j < n → 0 ≤ c j → 0 < c i
section TM7
variable {E : Ev} {a n i r : Nat} {h hh : AH} {Q : Value → AH → Prop} {X : Nat → AH → Prop} {ad K W : Nat → Nat} {vs cmp nk : Value} {sz mc : Int} {T : TT} {lo hi : Nat → Nat} {c : Nat → Int} {key : Nat}
theorem first_L (P : TH h a n ad K W vs cmp nk sz mc hh T) (S : Tsh n T lo hi) (K' : Q (.ref (ad 0)) (ovl h a hh)) : ∀ (m i : Nat), i ≤ m → i < n → lo i = 0 → V E mJ1_getFirstEntry 0 0 9 [some (.ref a), some (.ref (ad i))] [] (ovl h a hh) Q X := by
  intro m
  induction m with
  | zero =>
    intro i him hin hlo
    obtain ⟨a1, a2, a3, a4, a5, a6, a7, a8, a9⟩ := S.2.2 i hin
    have e : i = 0 := by omega
    subst e
    rcases hl : T 0 0 with _ | j
    · refine V_aload_n dJ1_getFirstEntry_9 rfl ?_
      refine VT_get 0 (by decide) P hin dJ1_getFirstEntry_10 q660 (o := none) hl ?_
      refine V_ifnullN 24 dJ1_getFirstEntry_13 (by decide) ?_
      refine V_aload_n dJ1_getFirstEntry_24 rfl ?_
      exact V_aret dJ1_getFirstEntry_25 rfl rfl (isR.or isR.rr) (by exact K')
    · have := a5 j hl; omega
  | succ m ih =>
    intro i him hin hlo
    obtain ⟨a1, a2, a3, a4, a5, a6, a7, a8, a9⟩ := S.2.2 i hin
    rcases hl : T 0 i with _ | j
    · have e : i = 0 := by have := a4 hl; omega
      subst e
      refine V_aload_n dJ1_getFirstEntry_9 rfl ?_
      refine VT_get 0 (by decide) P hin dJ1_getFirstEntry_10 q660 (o := none) hl ?_
      refine V_ifnullN 24 dJ1_getFirstEntry_13 (by decide) ?_
      refine V_aload_n dJ1_getFirstEntry_24 rfl ?_
      exact V_aret dJ1_getFirstEntry_25 rfl rfl (isR.or isR.rr) (by exact K')
    · have z := a5 j hl
      refine V_aload_n dJ1_getFirstEntry_9 rfl ?_
      refine VT_get 0 (by decide) P hin dJ1_getFirstEntry_10 q660 (o := some j) hl ?_
      refine V_ifnull dJ1_getFirstEntry_13 ?_
      refine V_aload_n dJ1_getFirstEntry_16 rfl ?_
      refine VT_get 0 (by decide) P hin dJ1_getFirstEntry_17 q660 (o := some j) hl ?_
      refine V_astore_n dJ1_getFirstEntry_20 (by decide) ?_
      refine V_goto 9 dJ1_getFirstEntry_21 (by decide) ?_
      exact ih j (by omega) (by omega) (by omega)
theorem c_J1_getFirstEntry (P : TH h a n ad K W vs cmp nk sz mc hh T) (S : Tsh n T lo hi) (K0 : n = 0 → Q .null (ovl h a hh)) (K1 : 0 < n → Q (.ref (ad 0)) (ovl h a hh)) : V E mJ1_getFirstEntry 0 0 0 [some (.ref a), none] [] (ovl h a hh) Q X := by
  rcases hr : T 3 0 with _ | r
  · refine V_aload_n dJ1_getFirstEntry_0 rfl ?_
    refine VT_getRoot P dJ1_getFirstEntry_1 q190 (o := none) hr ?_
    refine V_astore_nN dJ1_getFirstEntry_4 (by decide) ?_
    refine V_aload_nN dJ1_getFirstEntry_5 rfl ?_
    refine V_ifnullN 24 dJ1_getFirstEntry_6 (by decide) ?_
    refine V_aload_nN dJ1_getFirstEntry_24 rfl ?_
    exact V_aret dJ1_getFirstEntry_25 rfl rfl (isR.or isR.nn) (by exact K0 (S.1 hr))
  · obtain ⟨b1, b2, b3, b4⟩ := S.2.1 r hr
    refine V_aload_n dJ1_getFirstEntry_0 rfl ?_
    refine VT_getRoot P dJ1_getFirstEntry_1 q190 (o := some r) hr ?_
    refine V_astore_n dJ1_getFirstEntry_4 (by decide) ?_
    refine V_aload_n dJ1_getFirstEntry_5 rfl ?_
    refine V_ifnull dJ1_getFirstEntry_6 ?_
    exact first_L P S (K1 (by omega)) r r (Nat.le_refl _) b1 b3
theorem last_L (P : TH h a n ad K W vs cmp nk sz mc hh T) (S : Tsh n T lo hi) (K' : Q (.ref (ad (n - 1))) (ovl h a hh)) : ∀ (m i : Nat), n - i ≤ m → i < n → hi i = n → V E mJ1_getLastEntry 0 0 9 [some (.ref a), some (.ref (ad i))] [] (ovl h a hh) Q X := by
  intro m
  induction m with
  | zero => intro i him hin; omega
  | succ m ih =>
    intro i him hin hlo
    obtain ⟨a1, a2, a3, a4, a5, a6, a7, a8, a9⟩ := S.2.2 i hin
    rcases hl : T 1 i with _ | j
    · have e : n - 1 = i := by have := a6 hl; omega
      rw [e] at K'
      refine V_aload_n dJ1_getLastEntry_9 rfl ?_
      refine VT_get 1 (by decide) P hin dJ1_getLastEntry_10 q661 (o := none) hl ?_
      refine V_ifnullN 24 dJ1_getLastEntry_13 (by decide) ?_
      refine V_aload_n dJ1_getLastEntry_24 rfl ?_
      exact V_aret dJ1_getLastEntry_25 rfl rfl (isR.or isR.rr) (by exact K')
    · have z := a7 j hl
      refine V_aload_n dJ1_getLastEntry_9 rfl ?_
      refine VT_get 1 (by decide) P hin dJ1_getLastEntry_10 q661 (o := some j) hl ?_
      refine V_ifnull dJ1_getLastEntry_13 ?_
      refine V_aload_n dJ1_getLastEntry_16 rfl ?_
      refine VT_get 1 (by decide) P hin dJ1_getLastEntry_17 q661 (o := some j) hl ?_
      refine V_astore_n dJ1_getLastEntry_20 (by decide) ?_
      refine V_goto 9 dJ1_getLastEntry_21 (by decide) ?_
      exact ih j (by omega) (by omega) (by omega)
theorem c_J1_getLastEntry (P : TH h a n ad K W vs cmp nk sz mc hh T) (S : Tsh n T lo hi) (K0 : n = 0 → Q .null (ovl h a hh)) (K1 : 0 < n → Q (.ref (ad (n - 1))) (ovl h a hh)) : V E mJ1_getLastEntry 0 0 0 [some (.ref a), none] [] (ovl h a hh) Q X := by
  rcases hr : T 3 0 with _ | r
  · refine V_aload_n dJ1_getLastEntry_0 rfl ?_
    refine VT_getRoot P dJ1_getLastEntry_1 q190 (o := none) hr ?_
    refine V_astore_nN dJ1_getLastEntry_4 (by decide) ?_
    refine V_aload_nN dJ1_getLastEntry_5 rfl ?_
    refine V_ifnullN 24 dJ1_getLastEntry_6 (by decide) ?_
    refine V_aload_nN dJ1_getLastEntry_24 rfl ?_
    exact V_aret dJ1_getLastEntry_25 rfl rfl (isR.or isR.nn) (by exact K0 (S.1 hr))
  · obtain ⟨b1, b2, b3, b4⟩ := S.2.1 r hr
    refine V_aload_n dJ1_getLastEntry_0 rfl ?_
    refine VT_getRoot P dJ1_getLastEntry_1 q190 (o := some r) hr ?_
    refine V_astore_n dJ1_getLastEntry_4 (by decide) ?_
    refine V_aload_n dJ1_getLastEntry_5 rfl ?_
    refine V_ifnull dJ1_getLastEntry_6 ?_
    exact last_L P S (K1 (by omega)) (n - r) r (Nat.le_refl _) b1 b4
theorem succ_D (P : TH h a n ad K W vs cmp nk sz mc hh T) (S : Tsh n T lo hi) {i : Nat} {l0 l2 : Option Value} (K' : Q (.ref (ad i)) (ovl h a hh)) : ∀ (m j : Nat), j ≤ m → j < n → lo j = i → V E mJ1_successor 0 0 18 [l0, some (.ref (ad j)), l2] [] (ovl h a hh) Q X := by
  intro m
  induction m with
  | zero =>
    intro j him hin hlo
    obtain ⟨a1, a2, a3, a4, a5, a6, a7, a8, a9⟩ := S.2.2 j hin
    have e : i = j := by omega
    subst e
    rcases hl : T 0 i with _ | q
    · refine V_aload_n dJ1_successor_18 rfl ?_
      refine VT_get 0 (by decide) P hin dJ1_successor_19 q660 (o := none) hl ?_
      refine V_ifnullN 33 dJ1_successor_22 (by decide) ?_
      refine V_aload_n dJ1_successor_33 rfl ?_
      exact V_aret dJ1_successor_34 rfl rfl (isR.or isR.rr) (by exact K')
    · have := a5 q hl; omega
  | succ m ih =>
    intro j him hin hlo
    obtain ⟨a1, a2, a3, a4, a5, a6, a7, a8, a9⟩ := S.2.2 j hin
    rcases hl : T 0 j with _ | q
    · have e : i = j := by have := a4 hl; omega
      subst e
      refine V_aload_n dJ1_successor_18 rfl ?_
      refine VT_get 0 (by decide) P hin dJ1_successor_19 q660 (o := none) hl ?_
      refine V_ifnullN 33 dJ1_successor_22 (by decide) ?_
      refine V_aload_n dJ1_successor_33 rfl ?_
      exact V_aret dJ1_successor_34 rfl rfl (isR.or isR.rr) (by exact K')
    · have z := a5 q hl
      refine V_aload_n dJ1_successor_18 rfl ?_
      refine VT_get 0 (by decide) P hin dJ1_successor_19 q660 (o := some q) hl ?_
      refine V_ifnull dJ1_successor_22 ?_
      refine V_aload_n dJ1_successor_25 rfl ?_
      refine VT_get 0 (by decide) P hin dJ1_successor_26 q660 (o := some q) hl ?_
      refine V_astore_n dJ1_successor_29 (by decide) ?_
      refine V_goto 18 dJ1_successor_30 (by decide) ?_
      exact ih q (by omega) (by omega) (by omega)
theorem succ_U (P : TH h a n ad K W vs cmp nk sz mc hh T) (S : Tsh n T lo hi) {i : Nat} {l0 : Option Value} (K0 : i + 1 = n → Q .null (ovl h a hh)) (K1 : i + 1 < n → Q (.ref (ad (i + 1))) (ovl h a hh)) : ∀ (m j : Nat), n - (hi j - lo j) ≤ m → j < n → hi j = i + 1 → V E mJ1_successor 0 0 42 [l0, some (va_rf (Option.map ad (T 2 j))), some (.ref (ad j))] [] (ovl h a hh) Q X := by
  intro m
  induction m with
  | zero =>
    intro j hm hj hhi
    obtain ⟨a1, a2, a3, a4, a5, a6, a7, a8, a9⟩ := S.2.2 j hj
    rcases hp : T 2 j with _ | p
    · have := S.2.1 j (a8 hp)
      refine V_aload_nN dJ1_successor_42 rfl ?_
      refine V_ifnullN 64 dJ1_successor_43 (by decide) ?_
      refine V_aload_nN dJ1_successor_64 rfl ?_
      exact V_aret dJ1_successor_65 rfl rfl (isR.or isR.nn) (by exact K0 (by omega))
    · obtain ⟨z1, z2⟩ := a9 p hp
      obtain ⟨b1, b2, b3, b4, b5, b6, b7, b8, b9⟩ := S.2.2 p z1
      rcases z2 with z | z
      · have := b5 j z; omega
      · have := b7 j z; omega
  | succ m ih =>
    intro j hm hj hhi
    obtain ⟨a1, a2, a3, a4, a5, a6, a7, a8, a9⟩ := S.2.2 j hj
    rcases hp : T 2 j with _ | p
    · have := S.2.1 j (a8 hp)
      refine V_aload_nN dJ1_successor_42 rfl ?_
      refine V_ifnullN 64 dJ1_successor_43 (by decide) ?_
      refine V_aload_nN dJ1_successor_64 rfl ?_
      exact V_aret dJ1_successor_65 rfl rfl (isR.or isR.nn) (by exact K0 (by omega))
    · obtain ⟨z1, z2⟩ := a9 p hp
      obtain ⟨b1, b2, b3, b4, b5, b6, b7, b8, b9⟩ := S.2.2 p z1
      by_cases hr : T 1 p = some j
      · have := b7 j hr
        have ih' := ih p (by omega) z1 (by omega)
        refine V_aload_n dJ1_successor_42 rfl ?_
        refine V_ifnull dJ1_successor_43 ?_
        refine V_aload_n dJ1_successor_46 rfl ?_
        refine V_aload_n dJ1_successor_47 rfl ?_
        refine VT_get 1 (by decide) P z1 dJ1_successor_48 q661 (o := some j) hr ?_
        refine V_acmp_ne (rx := (some (ad j))) (ry := (some (ad j))) 64 dJ1_successor_51 (by decide) (fun c_51 => absurd rfl c_51) (fun _ => ?_)
        refine V_aload_n dJ1_successor_54 rfl ?_
        refine V_astore_n dJ1_successor_55 (by decide) ?_
        refine V_aload_n dJ1_successor_56 rfl ?_
        refine VT_get 2 (by decide) P z1 dJ1_successor_57 q663 (o := T 2 p) rfl ?_
        refine V_astore_nG dJ1_successor_60 isR.rf (by decide) ?_
        refine V_goto 42 dJ1_successor_61 (by decide) ?_
        exact ih'
      · have hl : T 0 p = some j := by rcases z2 with z | z; exact z; exact absurd z hr
        have := b5 j hl
        have e : i + 1 = p := by omega
        rw [e] at K1
        refine V_aload_n dJ1_successor_42 rfl ?_
        refine V_ifnull dJ1_successor_43 ?_
        refine V_aload_n dJ1_successor_46 rfl ?_
        refine V_aload_n dJ1_successor_47 rfl ?_
        refine VT_get 1 (by decide) P z1 dJ1_successor_48 q661 (o := T 1 p) rfl ?_
        refine V_acmp_ne (rx := (some (ad j))) (ry := (Option.map ad (T 1 p))) 64 dJ1_successor_51 (by decide) (fun c_51 => ?_) (fun c_51 => by exfalso; exact hr (P.opt hj (fun j' e => P.2.2.2.2.1 1 p j' (by decide) z1 e) c_51.symm))
        refine V_aload_n dJ1_successor_64 rfl ?_
        exact V_aret dJ1_successor_65 rfl rfl (isR.or isR.rr) (by exact K1 z1)
theorem c_J1_successor (P : TH h a n ad K W vs cmp nk sz mc hh T) (S : Tsh n T lo hi) {i : Nat} (hn : i < n) (K0 : i + 1 = n → Q .null (ovl h a hh)) (K1 : i + 1 < n → Q (.ref (ad (i + 1))) (ovl h a hh)) : V E mJ1_successor 0 0 0 [some (.ref (ad i)), none, none] [] (ovl h a hh) Q X := by
  obtain ⟨a1, a2, a3, a4, a5, a6, a7, a8, a9⟩ := S.2.2 i hn
  rcases hr : T 1 i with _ | r
  · refine V_aload_n dJ1_successor_0 rfl ?_
    refine V_ifnonnull 6 dJ1_successor_1 (by decide) ?_
    refine V_aload_n dJ1_successor_6 rfl ?_
    refine VT_get 1 (by decide) P hn dJ1_successor_7 q661 (o := none) hr ?_
    refine V_ifnullN 35 dJ1_successor_10 (by decide) ?_
    refine V_aload_n dJ1_successor_35 rfl ?_
    refine VT_get 2 (by decide) P hn dJ1_successor_36 q663 (o := T 2 i) rfl ?_
    refine V_astore_nG dJ1_successor_39 isR.rf (by decide) ?_
    refine V_aload_n dJ1_successor_40 rfl ?_
    refine V_astore_n dJ1_successor_41 (by decide) ?_
    exact succ_U P S K0 K1 (n - (hi i - lo i)) i (Nat.le_refl _) hn (a6 hr)
  · obtain ⟨b1, b2, b3, b4, b5⟩ := a7 r hr
    refine V_aload_n dJ1_successor_0 rfl ?_
    refine V_ifnonnull 6 dJ1_successor_1 (by decide) ?_
    refine V_aload_n dJ1_successor_6 rfl ?_
    refine VT_get 1 (by decide) P hn dJ1_successor_7 q661 (o := some r) hr ?_
    refine V_ifnull dJ1_successor_10 ?_
    refine V_aload_n dJ1_successor_13 rfl ?_
    refine VT_get 1 (by decide) P hn dJ1_successor_14 q661 (o := some r) hr ?_
    refine V_astore_n dJ1_successor_17 (by decide) ?_
    exact succ_D P S (K1 (by omega)) r r (Nat.le_refl _) b2 b4
end TM7
