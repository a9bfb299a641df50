/-! TREES: fixAfterInsertion -/
section TM6
variable {E : Ev} {M : Mt} {d b pc idx a n i p g r : Nat} {ls : List (Option Value)} {rest st : List Value} {h hh : AH} {Q : Value → AH → Prop} {X : Nat → AH → Prop} {ad K W : Nat → Nat} {vs cmp nk : Value} {sz mc : Int} {T : TT} {o o' : Option Nat} {lo hi : Nat → Nat} {l1 l2 : Option Value}
theorem c_J1_parentOfE (P : TH h a n ad K W vs cmp nk sz mc hh T) (ho : ∀ j, o = some j → j < n) (e : o.bind (T 2) = o') (K' : Q (va_rf (Option.map ad o')) (ovl h a hh)) : V E mJ1_parentOf 0 0 0 [some (va_rf (Option.map ad o))] [] (ovl h a hh) Q X := by subst e; exact c_J1_parentOf P ho K'
theorem c_J1_leftOfE (P : TH h a n ad K W vs cmp nk sz mc hh T) (ho : ∀ j, o = some j → j < n) (e : o.bind (T 0) = o') (K' : Q (va_rf (Option.map ad o')) (ovl h a hh)) : V E mJ1_leftOf 0 0 0 [some (va_rf (Option.map ad o))] [] (ovl h a hh) Q X := by subst e; exact c_J1_leftOf P ho K'
theorem c_J1_rightOfE (P : TH h a n ad K W vs cmp nk sz mc hh T) (ho : ∀ j, o = some j → j < n) (e : o.bind (T 1) = o') (K' : Q (va_rf (Option.map ad o')) (ovl h a hh)) : V E mJ1_rightOf 0 0 0 [some (va_rf (Option.map ad o))] [] (ovl h a hh) Q X := by subst e; exact c_J1_rightOf P ho K'
theorem c_J1_colorOfE {x : Int} (P : TH h a n ad K W vs cmp nk sz mc hh T) (ho : ∀ j, o = some j → j < n) (e : cO T o = x) (K' : Q (vI x) (ovl h a hh)) : V E mJ1_colorOf 0 0 0 [some (va_rf (Option.map ad o))] [] (ovl h a hh) Q X := by subst e; exact c_J1_colorOf P ho K'
theorem c_J1_setColorE {c : Option Nat} {T' : TT} (P : TH h a n ad K W vs cmp nk sz mc hh T) (ho : ∀ j, o = some j → j < n) (e : stC T o c = T') (K' : ∀ hh', TH h a n ad K W vs cmp nk sz mc hh' T' → Q .null (ovl h a hh')) : V E mJ1_setColor 0 0 0 [some (va_rf (Option.map ad o)), some (vI (cV c))] [] (ovl h a hh) Q X := by subst e; exact c_J1_setColor P ho K'
theorem Tsh.col {x : Option Nat} (S : Tsh n T lo hi) : Tsh n (tup T 4 i x) lo hi := by
  have e : ∀ k j, k ≠ 4 → tup T 4 i x k j = T k j := fun k j hk => tup_nk hk
  unfold Tsh Tn
  simp only [e 0 _ (by decide), e 1 _ (by decide), e 2 _ (by decide), e 3 _ (by decide)]
  exact S
/-- what goes on behind: any tree of the same entries, its root black -/
abbrev KT (h : AH) (a n : Nat) (ad K W : Nat → Nat) (vs cmp nk : Value) (sz mc : Int) (Q : Value → AH → Prop) : Prop := ∀ (hh' : AH) (T' : TT) (lo' hi' : Nat → Nat), TH h a n ad K W vs cmp nk sz mc hh' T' → Tsh n T' lo' hi' → (∀ r, T' 3 0 = some r → T' 4 r ≠ none) → Q .null (ovl h a hh')
theorem fixI_end (P : TH h a n ad K W vs cmp nk sz mc hh T) (S : Tsh n T lo hi) (hn : 0 < n) (K' : KT h a n ad K W vs cmp nk sz mc Q) : V E mJ1_fixAfterInsertion 1 0 258 [some (.ref a), l1, l2] [] (ovl h a hh) Q X := by
  rcases hr : T 3 0 with _ | r
  · have := S.1 hr; omega
  · have h3 := (S.2.1 r hr).1
    refine V_aload_n dJ1_fixAfterInsertion_258 rfl ?_
    refine VT_getRoot P dJ1_fixAfterInsertion_259 q190 (o := some r) hr ?_
    refine V_iconst dJ1_fixAfterInsertion_262 ?_
    refine VT_putC P h3 dJ1_fixAfterInsertion_263 q665 (some 0) rfl (fun hh263_1 P263_1 => ?_)
    exact V_vret dJ1_fixAfterInsertion_266 rfl (by exact K' _ _ _ _ P263_1 (Tsh.col S) (fun r' e => by rw [tup_nk (by decide), hr] at e; cases e; rw [tup_eq]; simp))
/-- the uncle on the right is black: turn, and done -/
theorem fixI_A (P : TH h a n ad K W vs cmp nk sz mc hh T) (S : Tsh n T lo hi) (h0 : i < n) (hp : T 2 i = some p) (hg : T 2 p = some g) (hl : T 0 g = some p) (K' : KT h a n ad K W vs cmp nk sz mc Q) : V E mJ1_fixAfterInsertion 1 0 97 [some (.ref a), some (.ref (ad i)), l2] [] (ovl h a hh) Q X := by
  obtain ⟨S0, S1, S2⟩ := id S
  obtain ⟨a1, a2, a3, a4, a5, a6, a7, a8, a9⟩ := S2 i h0
  obtain ⟨z1, z2⟩ := a9 p hp
  obtain ⟨b1, b2, b3, b4, b5, b6, b7, b8, b9⟩ := S2 p z1
  obtain ⟨y1, y2⟩ := b9 g hg
  obtain ⟨c1, c2, c3, c4, c5, c6, c7, c8, c9⟩ := S2 g y1
  have := c5 p hl
  by_cases hr : T 1 p = some i
  · have := b7 i hr
    have nip : i ≠ p := by omega
    have npg : p ≠ g := by omega
    have nig : i ≠ g := by omega
    have r1 : rotL T p i 2 p = some i := by simp [rotL]
    have r2 : rotL T p i 2 i = some g := by simp [rotL, nip, hg]
    have r3 : rotL T p i 0 g = some i := by simp [rotL, hg, hl, Ne.symm nig]
    have S' := Tsh.col (x := none) (i := g) (Tsh.col (x := some 0) (i := i) (Tsh_rotL S z1 hr))
    refine V_aload_n dJ1_fixAfterInsertion_97 rfl ?_
    refine V_aload_n dJ1_fixAfterInsertion_98 rfl ?_
    refine V_invS (M' := mJ1_parentOf) (As := [.ref (ad i)]) (rest := [.ref (ad i)]) okJ1_parentOf dJ1_fixAfterInsertion_99 q690 rfl rfl rfl (Nat.le_of_ble_eq_true rfl) (d' := 0) (b1 := 0) (by first | decide | omega) (by first | decide | omega) (c_J1_parentOfE (o := some i) (o' := some p) P (fun _ e => by cases e; exact h0) hp ?_)
    refine V_invS (M' := mJ1_rightOf) (As := [.ref (ad p)]) (rest := [.ref (ad i)]) okJ1_rightOf dJ1_fixAfterInsertion_102 q696 rfl rfl rfl (Nat.le_of_ble_eq_true rfl) (d' := 0) (b1 := 0) (by first | decide | omega) (by first | decide | omega) (c_J1_rightOfE (o := some p) (o' := some i) P (fun _ e => by cases e; exact z1) hr ?_)
    refine V_acmp_ne (rx := (some (ad i))) (ry := (some (ad i))) 118 dJ1_fixAfterInsertion_105 (by decide) (fun c_105 => absurd rfl c_105) (fun _ => ?_)
    refine V_aload_n dJ1_fixAfterInsertion_108 rfl ?_
    refine V_invS (M' := mJ1_parentOf) (As := [.ref (ad i)]) (rest := []) okJ1_parentOf dJ1_fixAfterInsertion_109 q690 rfl rfl rfl (Nat.le_of_ble_eq_true rfl) (d' := 0) (b1 := 0) (by first | decide | omega) (by first | decide | omega) (c_J1_parentOfE (o := some i) (o' := some p) P (fun _ e => by cases e; exact h0) hp ?_)
    refine V_astore_n dJ1_fixAfterInsertion_112 (by decide) ?_
    refine V_aload_n dJ1_fixAfterInsertion_113 rfl ?_
    refine V_aload_n dJ1_fixAfterInsertion_114 rfl ?_
    refine V_invVc (M' := mJ1_rotateLeft) (As := [.ref (ad p)]) (rest := []) okJ1_rotateLeft dJ1_fixAfterInsertion_115 q705 rfl rfl (clsE.o P.ob) rfl rfl (Nat.le_of_ble_eq_true rfl) (d' := 0) (b1 := 0) (by first | decide | omega) (by first | decide | omega) (c_J1_rotateLeft P S z1 hr (fun hh115_1 P115_1 => ?_))
    refine V_aload_n dJ1_fixAfterInsertion_118 rfl ?_
    refine V_invS (M' := mJ1_parentOf) (As := [.ref (ad p)]) (rest := []) okJ1_parentOf dJ1_fixAfterInsertion_119 q690 rfl rfl rfl (Nat.le_of_ble_eq_true rfl) (d' := 0) (b1 := 0) (by first | decide | omega) (by first | decide | omega) (c_J1_parentOfE (o := some p) (o' := some i) P115_1 (fun _ e => by cases e; exact z1) r1 ?_)
    refine V_iconst dJ1_fixAfterInsertion_122 ?_
    refine V_invS (M' := mJ1_setColor) (As := [.ref (ad i), vI 1]) (rest := []) okJ1_setColor dJ1_fixAfterInsertion_123 q702 rfl rfl rfl (Nat.le_of_ble_eq_true rfl) (d' := 0) (b1 := 0) (by first | decide | omega) (by first | decide | omega) (c_J1_setColorE (o := some i) (c := some 0) (T' := tup (rotL T p i) 4 i (some 0)) P115_1 (fun _ e => by cases e; exact h0) rfl (fun hh123_2 P123_2 => ?_))
    refine V_aload_n dJ1_fixAfterInsertion_126 rfl ?_
    refine V_invS (M' := mJ1_parentOf) (As := [.ref (ad p)]) (rest := []) okJ1_parentOf dJ1_fixAfterInsertion_127 q690 rfl rfl rfl (Nat.le_of_ble_eq_true rfl) (d' := 0) (b1 := 0) (by first | decide | omega) (by first | decide | omega) (c_J1_parentOfE (o := some p) (o' := some i) P123_2 (fun _ e => by cases e; exact z1) ((tup_nk (by decide)).trans r1) ?_)
    refine V_invS (M' := mJ1_parentOf) (As := [.ref (ad i)]) (rest := []) okJ1_parentOf dJ1_fixAfterInsertion_130 q690 rfl rfl rfl (Nat.le_of_ble_eq_true rfl) (d' := 0) (b1 := 0) (by first | decide | omega) (by first | decide | omega) (c_J1_parentOfE (o := some i) (o' := some g) P123_2 (fun _ e => by cases e; exact h0) ((tup_nk (by decide)).trans r2) ?_)
    refine V_iconst dJ1_fixAfterInsertion_133 ?_
    refine V_invS (M' := mJ1_setColor) (As := [.ref (ad g), vI 0]) (rest := []) okJ1_setColor dJ1_fixAfterInsertion_134 q702 rfl rfl rfl (Nat.le_of_ble_eq_true rfl) (d' := 0) (b1 := 0) (by first | decide | omega) (by first | decide | omega) (c_J1_setColorE (o := some g) (c := none) (T' := tup (tup (rotL T p i) 4 i (some 0)) 4 g none) P123_2 (fun _ e => by cases e; exact y1) rfl (fun hh134_3 P134_3 => ?_))
    refine V_aload_n dJ1_fixAfterInsertion_137 rfl ?_
    refine V_aload_n dJ1_fixAfterInsertion_138 rfl ?_
    refine V_invS (M' := mJ1_parentOf) (As := [.ref (ad p)]) (rest := [.ref a]) okJ1_parentOf dJ1_fixAfterInsertion_139 q690 rfl rfl rfl (Nat.le_of_ble_eq_true rfl) (d' := 0) (b1 := 0) (by first | decide | omega) (by first | decide | omega) (c_J1_parentOfE (o := some p) (o' := some i) P134_3 (fun _ e => by cases e; exact z1) ((tup_nk (by decide)).trans ((tup_nk (by decide)).trans r1)) ?_)
    refine V_invS (M' := mJ1_parentOf) (As := [.ref (ad i)]) (rest := [.ref a]) okJ1_parentOf dJ1_fixAfterInsertion_142 q690 rfl rfl rfl (Nat.le_of_ble_eq_true rfl) (d' := 0) (b1 := 0) (by first | decide | omega) (by first | decide | omega) (c_J1_parentOfE (o := some i) (o' := some g) P134_3 (fun _ e => by cases e; exact h0) ((tup_nk (by decide)).trans ((tup_nk (by decide)).trans r2)) ?_)
    refine V_invVc (M' := mJ1_rotateRight) (As := [.ref (ad g)]) (rest := []) okJ1_rotateRight dJ1_fixAfterInsertion_145 q709 rfl rfl (clsE.o P134_3.ob) rfl rfl (Nat.le_of_ble_eq_true rfl) (d' := 0) (b1 := 0) (by first | decide | omega) (by first | decide | omega) (c_J1_rotateRight P134_3 S' y1 ((tup_nk (by decide)).trans ((tup_nk (by decide)).trans r3)) (fun hh145_4 P145_4 => ?_))
    refine V_goto 5 dJ1_fixAfterInsertion_148 (by decide) ?_
    refine V_aload_n dJ1_fixAfterInsertion_5 rfl ?_
    refine V_ifnull dJ1_fixAfterInsertion_6 ?_
    refine V_aload_n dJ1_fixAfterInsertion_9 rfl ?_
    refine V_aload_n dJ1_fixAfterInsertion_10 rfl ?_
    refine VT_getRoot P145_4 dJ1_fixAfterInsertion_11 q190 (o := (rotR (tup (tup (rotL T p i) 4 i (some 0)) 4 g none) g i) 3 0) rfl ?_
    refine V_acmp_eq (rx := (some (ad p))) (ry := (Option.map ad ((rotR (tup (tup (rotL T p i) 4 i (some 0)) 4 g none) g i) 3 0))) 258 dJ1_fixAfterInsertion_14 (by decide) (fun c_14 => ?_) (fun c_14 => ?_)
    · exact fixI_end P145_4 (Tsh_rotR S' y1 (by simp [tup, r3])) (by omega) K'
    · refine V_aload_n dJ1_fixAfterInsertion_17 rfl ?_
      refine VT_get 2 (by decide) P145_4 z1 dJ1_fixAfterInsertion_18 q663 (o := some i) (by simp [rotR, tup, rotL, nip, npg, Ne.symm nip]; intro e; grind) ?_
      refine VT_getC P145_4 h0 dJ1_fixAfterInsertion_21 q665 (o := some 0) (by simp [rotR, tup, nig]) ?_
      refine V_topE 1 rfl ?_
      refine V_if_ne 258 dJ1_fixAfterInsertion_24 (by decide) (by first | omega | decide) (fun c_24 => ?_) (fun c_24 => absurd c_24 (by decide))
      exact fixI_end P145_4 (Tsh_rotR S' y1 (by simp [tup, r3])) (by omega) K'
  · have hli : T 0 p = some i := by rcases z2 with z | z; exact z; exact absurd z hr
    have := b5 i hli
    have nip : i ≠ p := by omega
    have npg : p ≠ g := by omega
    have nig : i ≠ g := by omega
    have S' := Tsh.col (x := none) (i := g) (Tsh.col (x := some 0) (i := p) S)
    refine V_aload_n dJ1_fixAfterInsertion_97 rfl ?_
    refine V_aload_n dJ1_fixAfterInsertion_98 rfl ?_
    refine V_invS (M' := mJ1_parentOf) (As := [.ref (ad i)]) (rest := [.ref (ad i)]) okJ1_parentOf dJ1_fixAfterInsertion_99 q690 rfl rfl rfl (Nat.le_of_ble_eq_true rfl) (d' := 0) (b1 := 0) (by first | decide | omega) (by first | decide | omega) (c_J1_parentOfE (o := some i) (o' := some p) P (fun _ e => by cases e; exact h0) hp ?_)
    refine V_invS (M' := mJ1_rightOf) (As := [.ref (ad p)]) (rest := [.ref (ad i)]) okJ1_rightOf dJ1_fixAfterInsertion_102 q696 rfl rfl rfl (Nat.le_of_ble_eq_true rfl) (d' := 0) (b1 := 0) (by first | decide | omega) (by first | decide | omega) (c_J1_rightOfE (o := some p) (o' := T 1 p) P (fun _ e => by cases e; exact z1) rfl ?_)
    refine V_acmp_ne (rx := (some (ad i))) (ry := (Option.map ad (T 1 p))) 118 dJ1_fixAfterInsertion_105 (by decide) (fun c_105 => ?_) (fun c_105 => by exfalso; exact hr (P.opt h0 (fun j e => P.2.2.2.2.1 1 p j (by decide) z1 e) c_105.symm))
    refine V_aload_n dJ1_fixAfterInsertion_118 rfl ?_
    refine V_invS (M' := mJ1_parentOf) (As := [.ref (ad i)]) (rest := []) okJ1_parentOf dJ1_fixAfterInsertion_119 q690 rfl rfl rfl (Nat.le_of_ble_eq_true rfl) (d' := 0) (b1 := 0) (by first | decide | omega) (by first | decide | omega) (c_J1_parentOfE (o := some i) (o' := some p) P (fun _ e => by cases e; exact h0) hp ?_)
    refine V_iconst dJ1_fixAfterInsertion_122 ?_
    refine V_invS (M' := mJ1_setColor) (As := [.ref (ad p), vI 1]) (rest := []) okJ1_setColor dJ1_fixAfterInsertion_123 q702 rfl rfl rfl (Nat.le_of_ble_eq_true rfl) (d' := 0) (b1 := 0) (by first | decide | omega) (by first | decide | omega) (c_J1_setColorE (o := some p) (c := some 0) (T' := tup T 4 p (some 0)) P (fun _ e => by cases e; exact z1) rfl (fun hh123_1 P123_1 => ?_))
    refine V_aload_n dJ1_fixAfterInsertion_126 rfl ?_
    refine V_invS (M' := mJ1_parentOf) (As := [.ref (ad i)]) (rest := []) okJ1_parentOf dJ1_fixAfterInsertion_127 q690 rfl rfl rfl (Nat.le_of_ble_eq_true rfl) (d' := 0) (b1 := 0) (by first | decide | omega) (by first | decide | omega) (c_J1_parentOfE (o := some i) (o' := some p) P123_1 (fun _ e => by cases e; exact h0) ((tup_nk (by decide)).trans hp) ?_)
    refine V_invS (M' := mJ1_parentOf) (As := [.ref (ad p)]) (rest := []) okJ1_parentOf dJ1_fixAfterInsertion_130 q690 rfl rfl rfl (Nat.le_of_ble_eq_true rfl) (d' := 0) (b1 := 0) (by first | decide | omega) (by first | decide | omega) (c_J1_parentOfE (o := some p) (o' := some g) P123_1 (fun _ e => by cases e; exact z1) ((tup_nk (by decide)).trans hg) ?_)
    refine V_iconst dJ1_fixAfterInsertion_133 ?_
    refine V_invS (M' := mJ1_setColor) (As := [.ref (ad g), vI 0]) (rest := []) okJ1_setColor dJ1_fixAfterInsertion_134 q702 rfl rfl rfl (Nat.le_of_ble_eq_true rfl) (d' := 0) (b1 := 0) (by first | decide | omega) (by first | decide | omega) (c_J1_setColorE (o := some g) (c := none) (T' := tup (tup T 4 p (some 0)) 4 g none) P123_1 (fun _ e => by cases e; exact y1) rfl (fun hh134_2 P134_2 => ?_))
    refine V_aload_n dJ1_fixAfterInsertion_137 rfl ?_
    refine V_aload_n dJ1_fixAfterInsertion_138 rfl ?_
    refine V_invS (M' := mJ1_parentOf) (As := [.ref (ad i)]) (rest := [.ref a]) okJ1_parentOf dJ1_fixAfterInsertion_139 q690 rfl rfl rfl (Nat.le_of_ble_eq_true rfl) (d' := 0) (b1 := 0) (by first | decide | omega) (by first | decide | omega) (c_J1_parentOfE (o := some i) (o' := some p) P134_2 (fun _ e => by cases e; exact h0) ((tup_nk (by decide)).trans ((tup_nk (by decide)).trans hp)) ?_)
    refine V_invS (M' := mJ1_parentOf) (As := [.ref (ad p)]) (rest := [.ref a]) okJ1_parentOf dJ1_fixAfterInsertion_142 q690 rfl rfl rfl (Nat.le_of_ble_eq_true rfl) (d' := 0) (b1 := 0) (by first | decide | omega) (by first | decide | omega) (c_J1_parentOfE (o := some p) (o' := some g) P134_2 (fun _ e => by cases e; exact z1) ((tup_nk (by decide)).trans ((tup_nk (by decide)).trans hg)) ?_)
    refine V_invVc (M' := mJ1_rotateRight) (As := [.ref (ad g)]) (rest := []) okJ1_rotateRight dJ1_fixAfterInsertion_145 q709 rfl rfl (clsE.o P134_2.ob) rfl rfl (Nat.le_of_ble_eq_true rfl) (d' := 0) (b1 := 0) (by first | decide | omega) (by first | decide | omega) (c_J1_rotateRight P134_2 S' y1 ((tup_nk (by decide)).trans ((tup_nk (by decide)).trans hl)) (fun hh145_3 P145_3 => ?_))
    refine V_goto 5 dJ1_fixAfterInsertion_148 (by decide) ?_
    refine V_aload_n dJ1_fixAfterInsertion_5 rfl ?_
    refine V_ifnull dJ1_fixAfterInsertion_6 ?_
    refine V_aload_n dJ1_fixAfterInsertion_9 rfl ?_
    refine V_aload_n dJ1_fixAfterInsertion_10 rfl ?_
    refine VT_getRoot P145_3 dJ1_fixAfterInsertion_11 q190 (o := (rotR (tup (tup T 4 p (some 0)) 4 g none) g p) 3 0) rfl ?_
    refine V_acmp_eq (rx := (some (ad i))) (ry := (Option.map ad ((rotR (tup (tup T 4 p (some 0)) 4 g none) g p) 3 0))) 258 dJ1_fixAfterInsertion_14 (by decide) (fun c_14 => ?_) (fun c_14 => ?_)
    · exact fixI_end P145_3 (Tsh_rotR S' y1 (by simp [tup, hl])) (by omega) K'
    · refine V_aload_n dJ1_fixAfterInsertion_17 rfl ?_
      refine VT_get 2 (by decide) P145_3 h0 dJ1_fixAfterInsertion_18 q663 (o := some p) (by simp [rotR, tup, nip, nig, hr, hp]) ?_
      refine VT_getC P145_3 z1 dJ1_fixAfterInsertion_21 q665 (o := some 0) (by simp [rotR, tup, npg]) ?_
      refine V_topE 1 rfl ?_
      refine V_if_ne 258 dJ1_fixAfterInsertion_24 (by decide) (by first | omega | decide) (fun c_24 => ?_) (fun c_24 => absurd c_24 (by decide))
      exact fixI_end P145_3 (Tsh_rotR S' y1 (by simp [tup, hl])) (by omega) K'
/-- the uncle on the left is black: turn, and done -/
theorem fixI_B (P : TH h a n ad K W vs cmp nk sz mc hh T) (S : Tsh n T lo hi) (h0 : i < n) (hp : T 2 i = some p) (hg : T 2 p = some g) (hl : T 1 g = some p) (K' : KT h a n ad K W vs cmp nk sz mc Q) : V E mJ1_fixAfterInsertion 1 0 204 [some (.ref a), some (.ref (ad i)), l2] [] (ovl h a hh) Q X := by
  obtain ⟨S0, S1, S2⟩ := id S
  obtain ⟨a1, a2, a3, a4, a5, a6, a7, a8, a9⟩ := S2 i h0
  obtain ⟨z1, z2⟩ := a9 p hp
  obtain ⟨b1, b2, b3, b4, b5, b6, b7, b8, b9⟩ := S2 p z1
  obtain ⟨y1, y2⟩ := b9 g hg
  obtain ⟨c1, c2, c3, c4, c5, c6, c7, c8, c9⟩ := S2 g y1
  have := c7 p hl
  by_cases hr : T 0 p = some i
  · have := b5 i hr
    have nip : i ≠ p := by omega
    have npg : p ≠ g := by omega
    have nig : i ≠ g := by omega
    have r1 : rotR T p i 2 p = some i := by simp [rotR]
    have r2 : rotR T p i 2 i = some g := by simp [rotR, nip, hg]
    have r3 : rotR T p i 1 g = some i := by simp [rotR, hg, hl, Ne.symm nig]
    have S' := Tsh.col (x := none) (i := g) (Tsh.col (x := some 0) (i := i) (Tsh_rotR S z1 hr))
    refine V_aload_n dJ1_fixAfterInsertion_204 rfl ?_
    refine V_aload_n dJ1_fixAfterInsertion_205 rfl ?_
    refine V_invS (M' := mJ1_parentOf) (As := [.ref (ad i)]) (rest := [.ref (ad i)]) okJ1_parentOf dJ1_fixAfterInsertion_206 q690 rfl rfl rfl (Nat.le_of_ble_eq_true rfl) (d' := 0) (b1 := 0) (by first | decide | omega) (by first | decide | omega) (c_J1_parentOfE (o := some i) (o' := some p) P (fun _ e => by cases e; exact h0) hp ?_)
    refine V_invS (M' := mJ1_leftOf) (As := [.ref (ad p)]) (rest := [.ref (ad i)]) okJ1_leftOf dJ1_fixAfterInsertion_209 q693 rfl rfl rfl (Nat.le_of_ble_eq_true rfl) (d' := 0) (b1 := 0) (by first | decide | omega) (by first | decide | omega) (c_J1_leftOfE (o := some p) (o' := some i) P (fun _ e => by cases e; exact z1) hr ?_)
    refine V_acmp_ne (rx := (some (ad i))) (ry := (some (ad i))) 225 dJ1_fixAfterInsertion_212 (by decide) (fun c_212 => absurd rfl c_212) (fun _ => ?_)
    refine V_aload_n dJ1_fixAfterInsertion_215 rfl ?_
    refine V_invS (M' := mJ1_parentOf) (As := [.ref (ad i)]) (rest := []) okJ1_parentOf dJ1_fixAfterInsertion_216 q690 rfl rfl rfl (Nat.le_of_ble_eq_true rfl) (d' := 0) (b1 := 0) (by first | decide | omega) (by first | decide | omega) (c_J1_parentOfE (o := some i) (o' := some p) P (fun _ e => by cases e; exact h0) hp ?_)
    refine V_astore_n dJ1_fixAfterInsertion_219 (by decide) ?_
    refine V_aload_n dJ1_fixAfterInsertion_220 rfl ?_
    refine V_aload_n dJ1_fixAfterInsertion_221 rfl ?_
    refine V_invVc (M' := mJ1_rotateRight) (As := [.ref (ad p)]) (rest := []) okJ1_rotateRight dJ1_fixAfterInsertion_222 q709 rfl rfl (clsE.o P.ob) rfl rfl (Nat.le_of_ble_eq_true rfl) (d' := 0) (b1 := 0) (by first | decide | omega) (by first | decide | omega) (c_J1_rotateRight P S z1 hr (fun hh222_1 P222_1 => ?_))
    refine V_aload_n dJ1_fixAfterInsertion_225 rfl ?_
    refine V_invS (M' := mJ1_parentOf) (As := [.ref (ad p)]) (rest := []) okJ1_parentOf dJ1_fixAfterInsertion_226 q690 rfl rfl rfl (Nat.le_of_ble_eq_true rfl) (d' := 0) (b1 := 0) (by first | decide | omega) (by first | decide | omega) (c_J1_parentOfE (o := some p) (o' := some i) P222_1 (fun _ e => by cases e; exact z1) r1 ?_)
    refine V_iconst dJ1_fixAfterInsertion_229 ?_
    refine V_invS (M' := mJ1_setColor) (As := [.ref (ad i), vI 1]) (rest := []) okJ1_setColor dJ1_fixAfterInsertion_230 q702 rfl rfl rfl (Nat.le_of_ble_eq_true rfl) (d' := 0) (b1 := 0) (by first | decide | omega) (by first | decide | omega) (c_J1_setColorE (o := some i) (c := some 0) (T' := tup (rotR T p i) 4 i (some 0)) P222_1 (fun _ e => by cases e; exact h0) rfl (fun hh230_2 P230_2 => ?_))
    refine V_aload_n dJ1_fixAfterInsertion_233 rfl ?_
    refine V_invS (M' := mJ1_parentOf) (As := [.ref (ad p)]) (rest := []) okJ1_parentOf dJ1_fixAfterInsertion_234 q690 rfl rfl rfl (Nat.le_of_ble_eq_true rfl) (d' := 0) (b1 := 0) (by first | decide | omega) (by first | decide | omega) (c_J1_parentOfE (o := some p) (o' := some i) P230_2 (fun _ e => by cases e; exact z1) ((tup_nk (by decide)).trans r1) ?_)
    refine V_invS (M' := mJ1_parentOf) (As := [.ref (ad i)]) (rest := []) okJ1_parentOf dJ1_fixAfterInsertion_237 q690 rfl rfl rfl (Nat.le_of_ble_eq_true rfl) (d' := 0) (b1 := 0) (by first | decide | omega) (by first | decide | omega) (c_J1_parentOfE (o := some i) (o' := some g) P230_2 (fun _ e => by cases e; exact h0) ((tup_nk (by decide)).trans r2) ?_)
    refine V_iconst dJ1_fixAfterInsertion_240 ?_
    refine V_invS (M' := mJ1_setColor) (As := [.ref (ad g), vI 0]) (rest := []) okJ1_setColor dJ1_fixAfterInsertion_241 q702 rfl rfl rfl (Nat.le_of_ble_eq_true rfl) (d' := 0) (b1 := 0) (by first | decide | omega) (by first | decide | omega) (c_J1_setColorE (o := some g) (c := none) (T' := tup (tup (rotR T p i) 4 i (some 0)) 4 g none) P230_2 (fun _ e => by cases e; exact y1) rfl (fun hh241_3 P241_3 => ?_))
    refine V_aload_n dJ1_fixAfterInsertion_244 rfl ?_
    refine V_aload_n dJ1_fixAfterInsertion_245 rfl ?_
    refine V_invS (M' := mJ1_parentOf) (As := [.ref (ad p)]) (rest := [.ref a]) okJ1_parentOf dJ1_fixAfterInsertion_246 q690 rfl rfl rfl (Nat.le_of_ble_eq_true rfl) (d' := 0) (b1 := 0) (by first | decide | omega) (by first | decide | omega) (c_J1_parentOfE (o := some p) (o' := some i) P241_3 (fun _ e => by cases e; exact z1) ((tup_nk (by decide)).trans ((tup_nk (by decide)).trans r1)) ?_)
    refine V_invS (M' := mJ1_parentOf) (As := [.ref (ad i)]) (rest := [.ref a]) okJ1_parentOf dJ1_fixAfterInsertion_249 q690 rfl rfl rfl (Nat.le_of_ble_eq_true rfl) (d' := 0) (b1 := 0) (by first | decide | omega) (by first | decide | omega) (c_J1_parentOfE (o := some i) (o' := some g) P241_3 (fun _ e => by cases e; exact h0) ((tup_nk (by decide)).trans ((tup_nk (by decide)).trans r2)) ?_)
    refine V_invVc (M' := mJ1_rotateLeft) (As := [.ref (ad g)]) (rest := []) okJ1_rotateLeft dJ1_fixAfterInsertion_252 q705 rfl rfl (clsE.o P241_3.ob) rfl rfl (Nat.le_of_ble_eq_true rfl) (d' := 0) (b1 := 0) (by first | decide | omega) (by first | decide | omega) (c_J1_rotateLeft P241_3 S' y1 ((tup_nk (by decide)).trans ((tup_nk (by decide)).trans r3)) (fun hh252_4 P252_4 => ?_))
    refine V_goto 5 dJ1_fixAfterInsertion_255 (by decide) ?_
    refine V_aload_n dJ1_fixAfterInsertion_5 rfl ?_
    refine V_ifnull dJ1_fixAfterInsertion_6 ?_
    refine V_aload_n dJ1_fixAfterInsertion_9 rfl ?_
    refine V_aload_n dJ1_fixAfterInsertion_10 rfl ?_
    refine VT_getRoot P252_4 dJ1_fixAfterInsertion_11 q190 (o := (rotL (tup (tup (rotR T p i) 4 i (some 0)) 4 g none) g i) 3 0) rfl ?_
    refine V_acmp_eq (rx := (some (ad p))) (ry := (Option.map ad ((rotL (tup (tup (rotR T p i) 4 i (some 0)) 4 g none) g i) 3 0))) 258 dJ1_fixAfterInsertion_14 (by decide) (fun c_14 => ?_) (fun c_14 => ?_)
    · exact fixI_end P252_4 (Tsh_rotL S' y1 (by simp [tup, r3])) (by omega) K'
    · refine V_aload_n dJ1_fixAfterInsertion_17 rfl ?_
      refine VT_get 2 (by decide) P252_4 z1 dJ1_fixAfterInsertion_18 q663 (o := some i) (by simp [rotL, tup, rotR, nip, npg, Ne.symm nip]; intro e; grind) ?_
      refine VT_getC P252_4 h0 dJ1_fixAfterInsertion_21 q665 (o := some 0) (by simp [rotL, tup, nig]) ?_
      refine V_topE 1 rfl ?_
      refine V_if_ne 258 dJ1_fixAfterInsertion_24 (by decide) (by first | omega | decide) (fun c_24 => ?_) (fun c_24 => absurd c_24 (by decide))
      exact fixI_end P252_4 (Tsh_rotL S' y1 (by simp [tup, r3])) (by omega) K'
  · have hli : T 1 p = some i := by rcases z2 with z | z; exact absurd z hr; exact z
    have := b7 i hli
    have nip : i ≠ p := by omega
    have npg : p ≠ g := by omega
    have nig : i ≠ g := by omega
    have S' := Tsh.col (x := none) (i := g) (Tsh.col (x := some 0) (i := p) S)
    refine V_aload_n dJ1_fixAfterInsertion_204 rfl ?_
    refine V_aload_n dJ1_fixAfterInsertion_205 rfl ?_
    refine V_invS (M' := mJ1_parentOf) (As := [.ref (ad i)]) (rest := [.ref (ad i)]) okJ1_parentOf dJ1_fixAfterInsertion_206 q690 rfl rfl rfl (Nat.le_of_ble_eq_true rfl) (d' := 0) (b1 := 0) (by first | decide | omega) (by first | decide | omega) (c_J1_parentOfE (o := some i) (o' := some p) P (fun _ e => by cases e; exact h0) hp ?_)
    refine V_invS (M' := mJ1_leftOf) (As := [.ref (ad p)]) (rest := [.ref (ad i)]) okJ1_leftOf dJ1_fixAfterInsertion_209 q693 rfl rfl rfl (Nat.le_of_ble_eq_true rfl) (d' := 0) (b1 := 0) (by first | decide | omega) (by first | decide | omega) (c_J1_leftOfE (o := some p) (o' := T 0 p) P (fun _ e => by cases e; exact z1) rfl ?_)
    refine V_acmp_ne (rx := (some (ad i))) (ry := (Option.map ad (T 0 p))) 225 dJ1_fixAfterInsertion_212 (by decide) (fun c_212 => ?_) (fun c_212 => by exfalso; exact hr (P.opt h0 (fun j e => P.2.2.2.2.1 0 p j (by decide) z1 e) c_212.symm))
    refine V_aload_n dJ1_fixAfterInsertion_225 rfl ?_
    refine V_invS (M' := mJ1_parentOf) (As := [.ref (ad i)]) (rest := []) okJ1_parentOf dJ1_fixAfterInsertion_226 q690 rfl rfl rfl (Nat.le_of_ble_eq_true rfl) (d' := 0) (b1 := 0) (by first | decide | omega) (by first | decide | omega) (c_J1_parentOfE (o := some i) (o' := some p) P (fun _ e => by cases e; exact h0) hp ?_)
    refine V_iconst dJ1_fixAfterInsertion_229 ?_
    refine V_invS (M' := mJ1_setColor) (As := [.ref (ad p), vI 1]) (rest := []) okJ1_setColor dJ1_fixAfterInsertion_230 q702 rfl rfl rfl (Nat.le_of_ble_eq_true rfl) (d' := 0) (b1 := 0) (by first | decide | omega) (by first | decide | omega) (c_J1_setColorE (o := some p) (c := some 0) (T' := tup T 4 p (some 0)) P (fun _ e => by cases e; exact z1) rfl (fun hh230_1 P230_1 => ?_))
    refine V_aload_n dJ1_fixAfterInsertion_233 rfl ?_
    refine V_invS (M' := mJ1_parentOf) (As := [.ref (ad i)]) (rest := []) okJ1_parentOf dJ1_fixAfterInsertion_234 q690 rfl rfl rfl (Nat.le_of_ble_eq_true rfl) (d' := 0) (b1 := 0) (by first | decide | omega) (by first | decide | omega) (c_J1_parentOfE (o := some i) (o' := some p) P230_1 (fun _ e => by cases e; exact h0) ((tup_nk (by decide)).trans hp) ?_)
    refine V_invS (M' := mJ1_parentOf) (As := [.ref (ad p)]) (rest := []) okJ1_parentOf dJ1_fixAfterInsertion_237 q690 rfl rfl rfl (Nat.le_of_ble_eq_true rfl) (d' := 0) (b1 := 0) (by first | decide | omega) (by first | decide | omega) (c_J1_parentOfE (o := some p) (o' := some g) P230_1 (fun _ e => by cases e; exact z1) ((tup_nk (by decide)).trans hg) ?_)
    refine V_iconst dJ1_fixAfterInsertion_240 ?_
    refine V_invS (M' := mJ1_setColor) (As := [.ref (ad g), vI 0]) (rest := []) okJ1_setColor dJ1_fixAfterInsertion_241 q702 rfl rfl rfl (Nat.le_of_ble_eq_true rfl) (d' := 0) (b1 := 0) (by first | decide | omega) (by first | decide | omega) (c_J1_setColorE (o := some g) (c := none) (T' := tup (tup T 4 p (some 0)) 4 g none) P230_1 (fun _ e => by cases e; exact y1) rfl (fun hh241_2 P241_2 => ?_))
    refine V_aload_n dJ1_fixAfterInsertion_244 rfl ?_
    refine V_aload_n dJ1_fixAfterInsertion_245 rfl ?_
    refine V_invS (M' := mJ1_parentOf) (As := [.ref (ad i)]) (rest := [.ref a]) okJ1_parentOf dJ1_fixAfterInsertion_246 q690 rfl rfl rfl (Nat.le_of_ble_eq_true rfl) (d' := 0) (b1 := 0) (by first | decide | omega) (by first | decide | omega) (c_J1_parentOfE (o := some i) (o' := some p) P241_2 (fun _ e => by cases e; exact h0) ((tup_nk (by decide)).trans ((tup_nk (by decide)).trans hp)) ?_)
    refine V_invS (M' := mJ1_parentOf) (As := [.ref (ad p)]) (rest := [.ref a]) okJ1_parentOf dJ1_fixAfterInsertion_249 q690 rfl rfl rfl (Nat.le_of_ble_eq_true rfl) (d' := 0) (b1 := 0) (by first | decide | omega) (by first | decide | omega) (c_J1_parentOfE (o := some p) (o' := some g) P241_2 (fun _ e => by cases e; exact z1) ((tup_nk (by decide)).trans ((tup_nk (by decide)).trans hg)) ?_)
    refine V_invVc (M' := mJ1_rotateLeft) (As := [.ref (ad g)]) (rest := []) okJ1_rotateLeft dJ1_fixAfterInsertion_252 q705 rfl rfl (clsE.o P241_2.ob) rfl rfl (Nat.le_of_ble_eq_true rfl) (d' := 0) (b1 := 0) (by first | decide | omega) (by first | decide | omega) (c_J1_rotateLeft P241_2 S' y1 ((tup_nk (by decide)).trans ((tup_nk (by decide)).trans hl)) (fun hh252_3 P252_3 => ?_))
    refine V_goto 5 dJ1_fixAfterInsertion_255 (by decide) ?_
    refine V_aload_n dJ1_fixAfterInsertion_5 rfl ?_
    refine V_ifnull dJ1_fixAfterInsertion_6 ?_
    refine V_aload_n dJ1_fixAfterInsertion_9 rfl ?_
    refine V_aload_n dJ1_fixAfterInsertion_10 rfl ?_
    refine VT_getRoot P252_3 dJ1_fixAfterInsertion_11 q190 (o := (rotL (tup (tup T 4 p (some 0)) 4 g none) g p) 3 0) rfl ?_
    refine V_acmp_eq (rx := (some (ad i))) (ry := (Option.map ad ((rotL (tup (tup T 4 p (some 0)) 4 g none) g p) 3 0))) 258 dJ1_fixAfterInsertion_14 (by decide) (fun c_14 => ?_) (fun c_14 => ?_)
    · exact fixI_end P252_3 (Tsh_rotL S' y1 (by simp [tup, hl])) (by omega) K'
    · refine V_aload_n dJ1_fixAfterInsertion_17 rfl ?_
      refine VT_get 2 (by decide) P252_3 h0 dJ1_fixAfterInsertion_18 q663 (o := some p) (by simp [rotL, tup, nip, nig, hr, hp]) ?_
      refine VT_getC P252_3 z1 dJ1_fixAfterInsertion_21 q665 (o := some 0) (by simp [rotL, tup, npg]) ?_
      refine V_topE 1 rfl ?_
      refine V_if_ne 258 dJ1_fixAfterInsertion_24 (by decide) (by first | omega | decide) (fun c_24 => ?_) (fun c_24 => absurd c_24 (by decide))
      exact fixI_end P252_3 (Tsh_rotL S' y1 (by simp [tup, hl])) (by omega) K'
/-- the loop -/
theorem fixI_L : ∀ (m : Nat) {i : Nat} {T : TT} {hh : AH} {lo hi : Nat → Nat} {l2 : Option Value}, TH h a n ad K W vs cmp nk sz mc hh T → Tsh n T lo hi → i < n → n - (hi i - lo i) ≤ m → (T 3 0 = some i ∨ ∀ r, T 3 0 = some r → T 4 r ≠ none) → KT h a n ad K W vs cmp nk sz mc Q → V E mJ1_fixAfterInsertion 1 0 5 [some (.ref a), some (.ref (ad i)), l2] [] (ovl h a hh) Q X := by
  intro m
  induction m with
  | zero =>
    intro i T hh lo hi l2 P S h0 hm RB K'
    obtain ⟨S0, S1, S2⟩ := id S
    obtain ⟨a1, a2, a3, a4, a5, a6, a7, a8, a9⟩ := S2 i h0
    have e1 : hi i = n := by omega
    have e2 : lo i = 0 := by omega
    rcases hr : T 3 0 with _ | r
    · have := S0 hr; omega
    · obtain ⟨b1, b2, b3, b4⟩ := S1 r hr
      have hir : T 2 i = none := by
        rcases hp : T 2 i with _ | p
        · rfl
        · obtain ⟨z1, z2⟩ := a9 p hp
          obtain ⟨d1, d2, d3, d4, d5, d6, d7, d8, d9⟩ := S2 p z1
          rcases z2 with z | z
          · have := d5 i z; omega
          · have := d7 i z; omega
      have := a8 hir
      rw [hr] at this
      cases this
      refine V_aload_n dJ1_fixAfterInsertion_5 rfl ?_
      refine V_ifnull dJ1_fixAfterInsertion_6 ?_
      refine V_aload_n dJ1_fixAfterInsertion_9 rfl ?_
      refine V_aload_n dJ1_fixAfterInsertion_10 rfl ?_
      refine VT_getRoot P dJ1_fixAfterInsertion_11 q190 (o := some i) hr ?_
      refine V_acmp_eq (rx := (some (ad i))) (ry := (some (ad i))) 258 dJ1_fixAfterInsertion_14 (by decide) (fun _ => ?_) (fun c_14 => absurd rfl c_14)
      exact fixI_end P S (by omega) K'
  | succ m ih =>
    intro i T hh lo hi l2 P S h0 hm RB K'
    obtain ⟨S0, S1, S2⟩ := id S
    obtain ⟨a1, a2, a3, a4, a5, a6, a7, a8, a9⟩ := S2 i h0
    rcases hr : T 3 0 with _ | r
    · have := S0 hr; omega
    · obtain ⟨b1, b2, b3, b4⟩ := S1 r hr
      by_cases hir : r = i
      · subst hir
        refine V_aload_n dJ1_fixAfterInsertion_5 rfl ?_
        refine V_ifnull dJ1_fixAfterInsertion_6 ?_
        refine V_aload_n dJ1_fixAfterInsertion_9 rfl ?_
        refine V_aload_n dJ1_fixAfterInsertion_10 rfl ?_
        refine VT_getRoot P dJ1_fixAfterInsertion_11 q190 (o := some r) hr ?_
        refine V_acmp_eq (rx := (some (ad r))) (ry := (some (ad r))) 258 dJ1_fixAfterInsertion_14 (by decide) (fun _ => ?_) (fun c_14 => absurd rfl c_14)
        exact fixI_end P S (by omega) K'
      · have nir : i ≠ r := fun e => hir e.symm
        have RB' : ∀ r, T 3 0 = some r → T 4 r ≠ none := by
          rcases RB with RB | RB
          · rw [hr] at RB; cases RB; exact absurd rfl hir
          · exact RB
        rcases hp : T 2 i with _ | p
        · have := a8 hp; rw [hr] at this; cases this; exact absurd rfl hir
        · obtain ⟨z1, z2⟩ := a9 p hp
          obtain ⟨d1, d2, d3, d4, d5, d6, d7, d8, d9⟩ := S2 p z1
          rcases hc : T 4 p with _ | c
          · have npr : p ≠ r := by rintro rfl; exact RB' p hr hc
            rcases hg : T 2 p with _ | g
            · have := d8 hg; rw [hr] at this; cases this; exact absurd rfl npr
            · obtain ⟨y1, y2⟩ := d9 g hg
              obtain ⟨f1, f2, f3, f4, f5, f6, f7, f8, f9⟩ := S2 g y1
              have hIg : hi i - lo i < hi g - lo g := by
                have w1 : hi i - lo i < hi p - lo p := by
                  rcases z2 with z | z
                  · have := d5 i z; omega
                  · have := d7 i z; omega
                rcases y2 with z | z
                · have := f5 p z; omega
                · have := f7 p z; omega
              have fin : ∀ (q : Nat) (hh' : AH), TH h a n ad K W vs cmp nk sz mc hh' (tup (tup (tup T 4 p (some 0)) 4 q (some 0)) 4 g none) → ∀ l2, V E mJ1_fixAfterInsertion 1 0 5 [some (.ref a), some (.ref (ad g)), l2] [] (ovl h a hh') Q X := fun q hh' P' l2 =>
                ih P' (Tsh.col (Tsh.col (Tsh.col S))) y1 (by omega) (by
                  by_cases e : r = g
                  · left; subst e; simp [tup, hr]
                  · right; intro r' hr'
                    simp only [tup] at hr'
                    have : r' = r := by simp [hr] at hr'; exact hr'.symm
                    subst this
                    simp only [tup]
                    by_cases e1 : r' = q
                    · simp [e, e1]; intro e2; exact absurd (e1.trans e2) e
                    · by_cases e2 : r' = p
                      · exact absurd e2.symm npr
                      · simp [e, e1, e2]; exact RB' r' hr) K'
              by_cases hl : T 0 g = some p
              · rcases hy : T 1 g with _ | q
                · refine V_aload_n dJ1_fixAfterInsertion_5 rfl ?_
                  refine V_ifnull dJ1_fixAfterInsertion_6 ?_
                  refine V_aload_n dJ1_fixAfterInsertion_9 rfl ?_
                  refine V_aload_n dJ1_fixAfterInsertion_10 rfl ?_
                  refine VT_getRoot P dJ1_fixAfterInsertion_11 q190 (o := some r) hr ?_
                  refine V_acmp_eq (rx := (some (ad i))) (ry := (some (ad r))) 258 dJ1_fixAfterInsertion_14 (by decide) (fun c_14 => (absurd (P.2.2.2.1 _ _ h0 b1 (Option.some.inj c_14)) nir)) (fun _ => ?_)
                  refine V_aload_n dJ1_fixAfterInsertion_17 rfl ?_
                  refine VT_get 2 (by decide) P h0 dJ1_fixAfterInsertion_18 q663 (o := some p) hp ?_
                  refine VT_getC P z1 dJ1_fixAfterInsertion_21 q665 (o := none) hc ?_
                  refine V_topE 0 rfl ?_
                  refine V_if_ne 258 dJ1_fixAfterInsertion_24 (by decide) (by first | omega | decide) (fun c_24 => absurd c_24 (by decide)) (fun c_24 => ?_)
                  refine V_aload_n dJ1_fixAfterInsertion_27 rfl ?_
                  refine V_invS (M' := mJ1_parentOf) (As := [.ref (ad i)]) (rest := []) okJ1_parentOf dJ1_fixAfterInsertion_28 q690 rfl rfl rfl (Nat.le_of_ble_eq_true rfl) (d' := 0) (b1 := 0) (by first | decide | omega) (by first | decide | omega) (c_J1_parentOfE (o := some i) (o' := some p) P (fun _ e => by cases e; exact h0) hp ?_)
                  refine V_aload_n dJ1_fixAfterInsertion_31 rfl ?_
                  refine V_invS (M' := mJ1_parentOf) (As := [.ref (ad i)]) (rest := [.ref (ad p)]) okJ1_parentOf dJ1_fixAfterInsertion_32 q690 rfl rfl rfl (Nat.le_of_ble_eq_true rfl) (d' := 0) (b1 := 0) (by first | decide | omega) (by first | decide | omega) (c_J1_parentOfE (o := some i) (o' := some p) P (fun _ e => by cases e; exact h0) hp ?_)
                  refine V_invS (M' := mJ1_parentOf) (As := [.ref (ad p)]) (rest := [.ref (ad p)]) okJ1_parentOf dJ1_fixAfterInsertion_35 q690 rfl rfl rfl (Nat.le_of_ble_eq_true rfl) (d' := 0) (b1 := 0) (by first | decide | omega) (by first | decide | omega) (c_J1_parentOfE (o := some p) (o' := some g) P (fun _ e => by cases e; exact z1) hg ?_)
                  refine V_invS (M' := mJ1_leftOf) (As := [.ref (ad g)]) (rest := [.ref (ad p)]) okJ1_leftOf dJ1_fixAfterInsertion_38 q693 rfl rfl rfl (Nat.le_of_ble_eq_true rfl) (d' := 0) (b1 := 0) (by first | decide | omega) (by first | decide | omega) (c_J1_leftOfE (o := some g) (o' := some p) P (fun _ e => by cases e; exact y1) hl ?_)
                  refine V_acmp_ne (rx := (some (ad p))) (ry := (some (ad p))) 151 dJ1_fixAfterInsertion_41 (by decide) (fun c_41 => absurd rfl c_41) (fun _ => ?_)
                  refine V_aload_n dJ1_fixAfterInsertion_44 rfl ?_
                  refine V_invS (M' := mJ1_parentOf) (As := [.ref (ad i)]) (rest := []) okJ1_parentOf dJ1_fixAfterInsertion_45 q690 rfl rfl rfl (Nat.le_of_ble_eq_true rfl) (d' := 0) (b1 := 0) (by first | decide | omega) (by first | decide | omega) (c_J1_parentOfE (o := some i) (o' := some p) P (fun _ e => by cases e; exact h0) hp ?_)
                  refine V_invS (M' := mJ1_parentOf) (As := [.ref (ad p)]) (rest := []) okJ1_parentOf dJ1_fixAfterInsertion_48 q690 rfl rfl rfl (Nat.le_of_ble_eq_true rfl) (d' := 0) (b1 := 0) (by first | decide | omega) (by first | decide | omega) (c_J1_parentOfE (o := some p) (o' := some g) P (fun _ e => by cases e; exact z1) hg ?_)
                  refine V_invS (M' := mJ1_rightOf) (As := [.ref (ad g)]) (rest := []) okJ1_rightOf dJ1_fixAfterInsertion_51 q696 rfl rfl rfl (Nat.le_of_ble_eq_true rfl) (d' := 0) (b1 := 0) (by first | decide | omega) (by first | decide | omega) (c_J1_rightOfE (o := some g) (o' := none) P (fun _ e => by cases e; exact y1) hy ?_)
                  refine V_astore_nN dJ1_fixAfterInsertion_54 (by decide) ?_
                  refine V_aload_nN dJ1_fixAfterInsertion_55 rfl ?_
                  refine V_invS (M' := mJ1_colorOf) (As := [.null]) (rest := []) okJ1_colorOf dJ1_fixAfterInsertion_56 q699 rfl rfl rfl (Nat.le_of_ble_eq_true rfl) (d' := 0) (b1 := 0) (by first | decide | omega) (by first | decide | omega) (c_J1_colorOf (o := none) P (fun _ e => by cases e) ?_)
                  refine V_topE 1 rfl ?_
                  refine V_if_ne 97 dJ1_fixAfterInsertion_59 (by decide) (by first | omega | decide) (fun c_59 => ?_) (fun c_59 => absurd c_59 (by decide))
                  exact fixI_A P S h0 hp hg hl K'
                · obtain ⟨x1, x2, x3, x4, x5⟩ := f7 q hy
                  rcases hcq : T 4 q with _ | cq
                  · have np : p ≠ g := by have := f5 p hl; omega
                    have nqg : q ≠ g := by omega
                    have nqp : q ≠ p := by have := f5 p hl; omega
                    refine V_aload_n dJ1_fixAfterInsertion_5 rfl ?_
                    refine V_ifnull dJ1_fixAfterInsertion_6 ?_
                    refine V_aload_n dJ1_fixAfterInsertion_9 rfl ?_
                    refine V_aload_n dJ1_fixAfterInsertion_10 rfl ?_
                    refine VT_getRoot P dJ1_fixAfterInsertion_11 q190 (o := some r) hr ?_
                    refine V_acmp_eq (rx := (some (ad i))) (ry := (some (ad r))) 258 dJ1_fixAfterInsertion_14 (by decide) (fun c_14 => (absurd (P.2.2.2.1 _ _ h0 b1 (Option.some.inj c_14)) nir)) (fun _ => ?_)
                    refine V_aload_n dJ1_fixAfterInsertion_17 rfl ?_
                    refine VT_get 2 (by decide) P h0 dJ1_fixAfterInsertion_18 q663 (o := some p) hp ?_
                    refine VT_getC P z1 dJ1_fixAfterInsertion_21 q665 (o := none) hc ?_
                    refine V_topE 0 rfl ?_
                    refine V_if_ne 258 dJ1_fixAfterInsertion_24 (by decide) (by first | omega | decide) (fun c_24 => absurd c_24 (by decide)) (fun c_24 => ?_)
                    refine V_aload_n dJ1_fixAfterInsertion_27 rfl ?_
                    refine V_invS (M' := mJ1_parentOf) (As := [.ref (ad i)]) (rest := []) okJ1_parentOf dJ1_fixAfterInsertion_28 q690 rfl rfl rfl (Nat.le_of_ble_eq_true rfl) (d' := 0) (b1 := 0) (by first | decide | omega) (by first | decide | omega) (c_J1_parentOfE (o := some i) (o' := some p) P (fun _ e => by cases e; exact h0) hp ?_)
                    refine V_aload_n dJ1_fixAfterInsertion_31 rfl ?_
                    refine V_invS (M' := mJ1_parentOf) (As := [.ref (ad i)]) (rest := [.ref (ad p)]) okJ1_parentOf dJ1_fixAfterInsertion_32 q690 rfl rfl rfl (Nat.le_of_ble_eq_true rfl) (d' := 0) (b1 := 0) (by first | decide | omega) (by first | decide | omega) (c_J1_parentOfE (o := some i) (o' := some p) P (fun _ e => by cases e; exact h0) hp ?_)
                    refine V_invS (M' := mJ1_parentOf) (As := [.ref (ad p)]) (rest := [.ref (ad p)]) okJ1_parentOf dJ1_fixAfterInsertion_35 q690 rfl rfl rfl (Nat.le_of_ble_eq_true rfl) (d' := 0) (b1 := 0) (by first | decide | omega) (by first | decide | omega) (c_J1_parentOfE (o := some p) (o' := some g) P (fun _ e => by cases e; exact z1) hg ?_)
                    refine V_invS (M' := mJ1_leftOf) (As := [.ref (ad g)]) (rest := [.ref (ad p)]) okJ1_leftOf dJ1_fixAfterInsertion_38 q693 rfl rfl rfl (Nat.le_of_ble_eq_true rfl) (d' := 0) (b1 := 0) (by first | decide | omega) (by first | decide | omega) (c_J1_leftOfE (o := some g) (o' := some p) P (fun _ e => by cases e; exact y1) hl ?_)
                    refine V_acmp_ne (rx := (some (ad p))) (ry := (some (ad p))) 151 dJ1_fixAfterInsertion_41 (by decide) (fun c_41 => absurd rfl c_41) (fun _ => ?_)
                    refine V_aload_n dJ1_fixAfterInsertion_44 rfl ?_
                    refine V_invS (M' := mJ1_parentOf) (As := [.ref (ad i)]) (rest := []) okJ1_parentOf dJ1_fixAfterInsertion_45 q690 rfl rfl rfl (Nat.le_of_ble_eq_true rfl) (d' := 0) (b1 := 0) (by first | decide | omega) (by first | decide | omega) (c_J1_parentOfE (o := some i) (o' := some p) P (fun _ e => by cases e; exact h0) hp ?_)
                    refine V_invS (M' := mJ1_parentOf) (As := [.ref (ad p)]) (rest := []) okJ1_parentOf dJ1_fixAfterInsertion_48 q690 rfl rfl rfl (Nat.le_of_ble_eq_true rfl) (d' := 0) (b1 := 0) (by first | decide | omega) (by first | decide | omega) (c_J1_parentOfE (o := some p) (o' := some g) P (fun _ e => by cases e; exact z1) hg ?_)
                    refine V_invS (M' := mJ1_rightOf) (As := [.ref (ad g)]) (rest := []) okJ1_rightOf dJ1_fixAfterInsertion_51 q696 rfl rfl rfl (Nat.le_of_ble_eq_true rfl) (d' := 0) (b1 := 0) (by first | decide | omega) (by first | decide | omega) (c_J1_rightOfE (o := some g) (o' := some q) P (fun _ e => by cases e; exact y1) hy ?_)
                    refine V_astore_n dJ1_fixAfterInsertion_54 (by decide) ?_
                    refine V_aload_n dJ1_fixAfterInsertion_55 rfl ?_
                    refine V_invS (M' := mJ1_colorOf) (As := [.ref (ad q)]) (rest := []) okJ1_colorOf dJ1_fixAfterInsertion_56 q699 rfl rfl rfl (Nat.le_of_ble_eq_true rfl) (d' := 0) (b1 := 0) (by first | decide | omega) (by first | decide | omega) (c_J1_colorOfE (o := some q) (x := cV none) P (fun _ e => by cases e; exact x2) (congrArg cV hcq) ?_)
                    refine V_topE 0 rfl ?_
                    refine V_if_ne 97 dJ1_fixAfterInsertion_59 (by decide) (by first | omega | decide) (fun c_59 => absurd c_59 (by decide)) (fun c_59 => ?_)
                    refine V_aload_n dJ1_fixAfterInsertion_62 rfl ?_
                    refine V_invS (M' := mJ1_parentOf) (As := [.ref (ad i)]) (rest := []) okJ1_parentOf dJ1_fixAfterInsertion_63 q690 rfl rfl rfl (Nat.le_of_ble_eq_true rfl) (d' := 0) (b1 := 0) (by first | decide | omega) (by first | decide | omega) (c_J1_parentOfE (o := some i) (o' := some p) P (fun _ e => by cases e; exact h0) hp ?_)
                    refine V_iconst dJ1_fixAfterInsertion_66 ?_
                    refine V_invS (M' := mJ1_setColor) (As := [.ref (ad p), vI 1]) (rest := []) okJ1_setColor dJ1_fixAfterInsertion_67 q702 rfl rfl rfl (Nat.le_of_ble_eq_true rfl) (d' := 0) (b1 := 0) (by first | decide | omega) (by first | decide | omega) (c_J1_setColorE (o := some p) (c := some 0) (T' := tup T 4 p (some 0)) P (fun _ e => by cases e; exact z1) rfl (fun hh67_1 P67_1 => ?_))
                    refine V_aload_n dJ1_fixAfterInsertion_70 rfl ?_
                    refine V_iconst dJ1_fixAfterInsertion_71 ?_
                    refine V_invS (M' := mJ1_setColor) (As := [.ref (ad q), vI 1]) (rest := []) okJ1_setColor dJ1_fixAfterInsertion_72 q702 rfl rfl rfl (Nat.le_of_ble_eq_true rfl) (d' := 0) (b1 := 0) (by first | decide | omega) (by first | decide | omega) (c_J1_setColorE (o := some q) (c := some 0) (T' := tup (tup T 4 p (some 0)) 4 q (some 0)) P67_1 (fun _ e => by cases e; exact x2) rfl (fun hh72_2 P72_2 => ?_))
                    refine V_aload_n dJ1_fixAfterInsertion_75 rfl ?_
                    refine V_invS (M' := mJ1_parentOf) (As := [.ref (ad i)]) (rest := []) okJ1_parentOf dJ1_fixAfterInsertion_76 q690 rfl rfl rfl (Nat.le_of_ble_eq_true rfl) (d' := 0) (b1 := 0) (by first | decide | omega) (by first | decide | omega) (c_J1_parentOfE (o := some i) (o' := some p) P72_2 (fun _ e => by cases e; exact h0) ((tup_nk (by decide)).trans ((tup_nk (by decide)).trans hp)) ?_)
                    refine V_invS (M' := mJ1_parentOf) (As := [.ref (ad p)]) (rest := []) okJ1_parentOf dJ1_fixAfterInsertion_79 q690 rfl rfl rfl (Nat.le_of_ble_eq_true rfl) (d' := 0) (b1 := 0) (by first | decide | omega) (by first | decide | omega) (c_J1_parentOfE (o := some p) (o' := some g) P72_2 (fun _ e => by cases e; exact z1) ((tup_nk (by decide)).trans ((tup_nk (by decide)).trans hg)) ?_)
                    refine V_iconst dJ1_fixAfterInsertion_82 ?_
                    refine V_invS (M' := mJ1_setColor) (As := [.ref (ad g), vI 0]) (rest := []) okJ1_setColor dJ1_fixAfterInsertion_83 q702 rfl rfl rfl (Nat.le_of_ble_eq_true rfl) (d' := 0) (b1 := 0) (by first | decide | omega) (by first | decide | omega) (c_J1_setColorE (o := some g) (c := none) (T' := tup (tup (tup T 4 p (some 0)) 4 q (some 0)) 4 g none) P72_2 (fun _ e => by cases e; exact y1) rfl (fun hh83_3 P83_3 => ?_))
                    refine V_aload_n dJ1_fixAfterInsertion_86 rfl ?_
                    refine V_invS (M' := mJ1_parentOf) (As := [.ref (ad i)]) (rest := []) okJ1_parentOf dJ1_fixAfterInsertion_87 q690 rfl rfl rfl (Nat.le_of_ble_eq_true rfl) (d' := 0) (b1 := 0) (by first | decide | omega) (by first | decide | omega) (c_J1_parentOfE (o := some i) (o' := some p) P83_3 (fun _ e => by cases e; exact h0) ((tup_nk (by decide)).trans ((tup_nk (by decide)).trans ((tup_nk (by decide)).trans hp))) ?_)
                    refine V_invS (M' := mJ1_parentOf) (As := [.ref (ad p)]) (rest := []) okJ1_parentOf dJ1_fixAfterInsertion_90 q690 rfl rfl rfl (Nat.le_of_ble_eq_true rfl) (d' := 0) (b1 := 0) (by first | decide | omega) (by first | decide | omega) (c_J1_parentOfE (o := some p) (o' := some g) P83_3 (fun _ e => by cases e; exact z1) ((tup_nk (by decide)).trans ((tup_nk (by decide)).trans ((tup_nk (by decide)).trans hg))) ?_)
                    refine V_astore_n dJ1_fixAfterInsertion_93 (by decide) ?_
                    refine V_goto 148 dJ1_fixAfterInsertion_94 (by decide) ?_
                    refine V_goto 5 dJ1_fixAfterInsertion_148 (by decide) ?_
                    exact fin q _ P83_3 _
                  · refine V_aload_n dJ1_fixAfterInsertion_5 rfl ?_
                    refine V_ifnull dJ1_fixAfterInsertion_6 ?_
                    refine V_aload_n dJ1_fixAfterInsertion_9 rfl ?_
                    refine V_aload_n dJ1_fixAfterInsertion_10 rfl ?_
                    refine VT_getRoot P dJ1_fixAfterInsertion_11 q190 (o := some r) hr ?_
                    refine V_acmp_eq (rx := (some (ad i))) (ry := (some (ad r))) 258 dJ1_fixAfterInsertion_14 (by decide) (fun c_14 => (absurd (P.2.2.2.1 _ _ h0 b1 (Option.some.inj c_14)) nir)) (fun _ => ?_)
                    refine V_aload_n dJ1_fixAfterInsertion_17 rfl ?_
                    refine VT_get 2 (by decide) P h0 dJ1_fixAfterInsertion_18 q663 (o := some p) hp ?_
                    refine VT_getC P z1 dJ1_fixAfterInsertion_21 q665 (o := none) hc ?_
                    refine V_topE 0 rfl ?_
                    refine V_if_ne 258 dJ1_fixAfterInsertion_24 (by decide) (by first | omega | decide) (fun c_24 => absurd c_24 (by decide)) (fun c_24 => ?_)
                    refine V_aload_n dJ1_fixAfterInsertion_27 rfl ?_
                    refine V_invS (M' := mJ1_parentOf) (As := [.ref (ad i)]) (rest := []) okJ1_parentOf dJ1_fixAfterInsertion_28 q690 rfl rfl rfl (Nat.le_of_ble_eq_true rfl) (d' := 0) (b1 := 0) (by first | decide | omega) (by first | decide | omega) (c_J1_parentOfE (o := some i) (o' := some p) P (fun _ e => by cases e; exact h0) hp ?_)
                    refine V_aload_n dJ1_fixAfterInsertion_31 rfl ?_
                    refine V_invS (M' := mJ1_parentOf) (As := [.ref (ad i)]) (rest := [.ref (ad p)]) okJ1_parentOf dJ1_fixAfterInsertion_32 q690 rfl rfl rfl (Nat.le_of_ble_eq_true rfl) (d' := 0) (b1 := 0) (by first | decide | omega) (by first | decide | omega) (c_J1_parentOfE (o := some i) (o' := some p) P (fun _ e => by cases e; exact h0) hp ?_)
                    refine V_invS (M' := mJ1_parentOf) (As := [.ref (ad p)]) (rest := [.ref (ad p)]) okJ1_parentOf dJ1_fixAfterInsertion_35 q690 rfl rfl rfl (Nat.le_of_ble_eq_true rfl) (d' := 0) (b1 := 0) (by first | decide | omega) (by first | decide | omega) (c_J1_parentOfE (o := some p) (o' := some g) P (fun _ e => by cases e; exact z1) hg ?_)
                    refine V_invS (M' := mJ1_leftOf) (As := [.ref (ad g)]) (rest := [.ref (ad p)]) okJ1_leftOf dJ1_fixAfterInsertion_38 q693 rfl rfl rfl (Nat.le_of_ble_eq_true rfl) (d' := 0) (b1 := 0) (by first | decide | omega) (by first | decide | omega) (c_J1_leftOfE (o := some g) (o' := some p) P (fun _ e => by cases e; exact y1) hl ?_)
                    refine V_acmp_ne (rx := (some (ad p))) (ry := (some (ad p))) 151 dJ1_fixAfterInsertion_41 (by decide) (fun c_41 => absurd rfl c_41) (fun _ => ?_)
                    refine V_aload_n dJ1_fixAfterInsertion_44 rfl ?_
                    refine V_invS (M' := mJ1_parentOf) (As := [.ref (ad i)]) (rest := []) okJ1_parentOf dJ1_fixAfterInsertion_45 q690 rfl rfl rfl (Nat.le_of_ble_eq_true rfl) (d' := 0) (b1 := 0) (by first | decide | omega) (by first | decide | omega) (c_J1_parentOfE (o := some i) (o' := some p) P (fun _ e => by cases e; exact h0) hp ?_)
                    refine V_invS (M' := mJ1_parentOf) (As := [.ref (ad p)]) (rest := []) okJ1_parentOf dJ1_fixAfterInsertion_48 q690 rfl rfl rfl (Nat.le_of_ble_eq_true rfl) (d' := 0) (b1 := 0) (by first | decide | omega) (by first | decide | omega) (c_J1_parentOfE (o := some p) (o' := some g) P (fun _ e => by cases e; exact z1) hg ?_)
                    refine V_invS (M' := mJ1_rightOf) (As := [.ref (ad g)]) (rest := []) okJ1_rightOf dJ1_fixAfterInsertion_51 q696 rfl rfl rfl (Nat.le_of_ble_eq_true rfl) (d' := 0) (b1 := 0) (by first | decide | omega) (by first | decide | omega) (c_J1_rightOfE (o := some g) (o' := some q) P (fun _ e => by cases e; exact y1) hy ?_)
                    refine V_astore_n dJ1_fixAfterInsertion_54 (by decide) ?_
                    refine V_aload_n dJ1_fixAfterInsertion_55 rfl ?_
                    refine V_invS (M' := mJ1_colorOf) (As := [.ref (ad q)]) (rest := []) okJ1_colorOf dJ1_fixAfterInsertion_56 q699 rfl rfl rfl (Nat.le_of_ble_eq_true rfl) (d' := 0) (b1 := 0) (by first | decide | omega) (by first | decide | omega) (c_J1_colorOfE (o := some q) (x := cV (some cq)) P (fun _ e => by cases e; exact x2) (congrArg cV hcq) ?_)
                    refine V_topE 1 rfl ?_
                    refine V_if_ne 97 dJ1_fixAfterInsertion_59 (by decide) (by first | omega | decide) (fun c_59 => ?_) (fun c_59 => absurd c_59 (by decide))
                    exact fixI_A P S h0 hp hg hl K'
              · have hl' : T 1 g = some p := by rcases y2 with z | z; exact absurd z hl; exact z
                rcases hy : T 0 g with _ | q
                · refine V_aload_n dJ1_fixAfterInsertion_5 rfl ?_
                  refine V_ifnull dJ1_fixAfterInsertion_6 ?_
                  refine V_aload_n dJ1_fixAfterInsertion_9 rfl ?_
                  refine V_aload_n dJ1_fixAfterInsertion_10 rfl ?_
                  refine VT_getRoot P dJ1_fixAfterInsertion_11 q190 (o := some r) hr ?_
                  refine V_acmp_eq (rx := (some (ad i))) (ry := (some (ad r))) 258 dJ1_fixAfterInsertion_14 (by decide) (fun c_14 => (absurd (P.2.2.2.1 _ _ h0 b1 (Option.some.inj c_14)) nir)) (fun _ => ?_)
                  refine V_aload_n dJ1_fixAfterInsertion_17 rfl ?_
                  refine VT_get 2 (by decide) P h0 dJ1_fixAfterInsertion_18 q663 (o := some p) hp ?_
                  refine VT_getC P z1 dJ1_fixAfterInsertion_21 q665 (o := none) hc ?_
                  refine V_topE 0 rfl ?_
                  refine V_if_ne 258 dJ1_fixAfterInsertion_24 (by decide) (by first | omega | decide) (fun c_24 => absurd c_24 (by decide)) (fun c_24 => ?_)
                  refine V_aload_n dJ1_fixAfterInsertion_27 rfl ?_
                  refine V_invS (M' := mJ1_parentOf) (As := [.ref (ad i)]) (rest := []) okJ1_parentOf dJ1_fixAfterInsertion_28 q690 rfl rfl rfl (Nat.le_of_ble_eq_true rfl) (d' := 0) (b1 := 0) (by first | decide | omega) (by first | decide | omega) (c_J1_parentOfE (o := some i) (o' := some p) P (fun _ e => by cases e; exact h0) hp ?_)
                  refine V_aload_n dJ1_fixAfterInsertion_31 rfl ?_
                  refine V_invS (M' := mJ1_parentOf) (As := [.ref (ad i)]) (rest := [.ref (ad p)]) okJ1_parentOf dJ1_fixAfterInsertion_32 q690 rfl rfl rfl (Nat.le_of_ble_eq_true rfl) (d' := 0) (b1 := 0) (by first | decide | omega) (by first | decide | omega) (c_J1_parentOfE (o := some i) (o' := some p) P (fun _ e => by cases e; exact h0) hp ?_)
                  refine V_invS (M' := mJ1_parentOf) (As := [.ref (ad p)]) (rest := [.ref (ad p)]) okJ1_parentOf dJ1_fixAfterInsertion_35 q690 rfl rfl rfl (Nat.le_of_ble_eq_true rfl) (d' := 0) (b1 := 0) (by first | decide | omega) (by first | decide | omega) (c_J1_parentOfE (o := some p) (o' := some g) P (fun _ e => by cases e; exact z1) hg ?_)
                  refine V_invS (M' := mJ1_leftOf) (As := [.ref (ad g)]) (rest := [.ref (ad p)]) okJ1_leftOf dJ1_fixAfterInsertion_38 q693 rfl rfl rfl (Nat.le_of_ble_eq_true rfl) (d' := 0) (b1 := 0) (by first | decide | omega) (by first | decide | omega) (c_J1_leftOfE (o := some g) (o' := none) P (fun _ e => by cases e; exact y1) hy ?_)
                  refine V_acmp_ne (rx := (some (ad p))) (ry := none) 151 dJ1_fixAfterInsertion_41 (by decide) (fun _ => ?_) (fun c_41 => (by cases c_41))
                  refine V_aload_n dJ1_fixAfterInsertion_151 rfl ?_
                  refine V_invS (M' := mJ1_parentOf) (As := [.ref (ad i)]) (rest := []) okJ1_parentOf dJ1_fixAfterInsertion_152 q690 rfl rfl rfl (Nat.le_of_ble_eq_true rfl) (d' := 0) (b1 := 0) (by first | decide | omega) (by first | decide | omega) (c_J1_parentOfE (o := some i) (o' := some p) P (fun _ e => by cases e; exact h0) hp ?_)
                  refine V_invS (M' := mJ1_parentOf) (As := [.ref (ad p)]) (rest := []) okJ1_parentOf dJ1_fixAfterInsertion_155 q690 rfl rfl rfl (Nat.le_of_ble_eq_true rfl) (d' := 0) (b1 := 0) (by first | decide | omega) (by first | decide | omega) (c_J1_parentOfE (o := some p) (o' := some g) P (fun _ e => by cases e; exact z1) hg ?_)
                  refine V_invS (M' := mJ1_leftOf) (As := [.ref (ad g)]) (rest := []) okJ1_leftOf dJ1_fixAfterInsertion_158 q693 rfl rfl rfl (Nat.le_of_ble_eq_true rfl) (d' := 0) (b1 := 0) (by first | decide | omega) (by first | decide | omega) (c_J1_leftOfE (o := some g) (o' := none) P (fun _ e => by cases e; exact y1) hy ?_)
                  refine V_astore_nN dJ1_fixAfterInsertion_161 (by decide) ?_
                  refine V_aload_nN dJ1_fixAfterInsertion_162 rfl ?_
                  refine V_invS (M' := mJ1_colorOf) (As := [.null]) (rest := []) okJ1_colorOf dJ1_fixAfterInsertion_163 q699 rfl rfl rfl (Nat.le_of_ble_eq_true rfl) (d' := 0) (b1 := 0) (by first | decide | omega) (by first | decide | omega) (c_J1_colorOf (o := none) P (fun _ e => by cases e) ?_)
                  refine V_topE 1 rfl ?_
                  refine V_if_ne 204 dJ1_fixAfterInsertion_166 (by decide) (by first | omega | decide) (fun c_166 => ?_) (fun c_166 => absurd c_166 (by decide))
                  exact fixI_B P S h0 hp hg hl' K'
                · obtain ⟨x1, x3, x4, x5⟩ := f5 q hy
                  have x2 : q < n := by omega
                  have nqp : q ≠ p := by have := f7 p hl'; omega
                  rcases hcq : T 4 q with _ | cq
                  · have np : p ≠ g := by have := f7 p hl'; omega
                    have nqg : q ≠ g := by omega
                    refine V_aload_n dJ1_fixAfterInsertion_5 rfl ?_
                    refine V_ifnull dJ1_fixAfterInsertion_6 ?_
                    refine V_aload_n dJ1_fixAfterInsertion_9 rfl ?_
                    refine V_aload_n dJ1_fixAfterInsertion_10 rfl ?_
                    refine VT_getRoot P dJ1_fixAfterInsertion_11 q190 (o := some r) hr ?_
                    refine V_acmp_eq (rx := (some (ad i))) (ry := (some (ad r))) 258 dJ1_fixAfterInsertion_14 (by decide) (fun c_14 => (absurd (P.2.2.2.1 _ _ h0 b1 (Option.some.inj c_14)) nir)) (fun _ => ?_)
                    refine V_aload_n dJ1_fixAfterInsertion_17 rfl ?_
                    refine VT_get 2 (by decide) P h0 dJ1_fixAfterInsertion_18 q663 (o := some p) hp ?_
                    refine VT_getC P z1 dJ1_fixAfterInsertion_21 q665 (o := none) hc ?_
                    refine V_topE 0 rfl ?_
                    refine V_if_ne 258 dJ1_fixAfterInsertion_24 (by decide) (by first | omega | decide) (fun c_24 => absurd c_24 (by decide)) (fun c_24 => ?_)
                    refine V_aload_n dJ1_fixAfterInsertion_27 rfl ?_
                    refine V_invS (M' := mJ1_parentOf) (As := [.ref (ad i)]) (rest := []) okJ1_parentOf dJ1_fixAfterInsertion_28 q690 rfl rfl rfl (Nat.le_of_ble_eq_true rfl) (d' := 0) (b1 := 0) (by first | decide | omega) (by first | decide | omega) (c_J1_parentOfE (o := some i) (o' := some p) P (fun _ e => by cases e; exact h0) hp ?_)
                    refine V_aload_n dJ1_fixAfterInsertion_31 rfl ?_
                    refine V_invS (M' := mJ1_parentOf) (As := [.ref (ad i)]) (rest := [.ref (ad p)]) okJ1_parentOf dJ1_fixAfterInsertion_32 q690 rfl rfl rfl (Nat.le_of_ble_eq_true rfl) (d' := 0) (b1 := 0) (by first | decide | omega) (by first | decide | omega) (c_J1_parentOfE (o := some i) (o' := some p) P (fun _ e => by cases e; exact h0) hp ?_)
                    refine V_invS (M' := mJ1_parentOf) (As := [.ref (ad p)]) (rest := [.ref (ad p)]) okJ1_parentOf dJ1_fixAfterInsertion_35 q690 rfl rfl rfl (Nat.le_of_ble_eq_true rfl) (d' := 0) (b1 := 0) (by first | decide | omega) (by first | decide | omega) (c_J1_parentOfE (o := some p) (o' := some g) P (fun _ e => by cases e; exact z1) hg ?_)
                    refine V_invS (M' := mJ1_leftOf) (As := [.ref (ad g)]) (rest := [.ref (ad p)]) okJ1_leftOf dJ1_fixAfterInsertion_38 q693 rfl rfl rfl (Nat.le_of_ble_eq_true rfl) (d' := 0) (b1 := 0) (by first | decide | omega) (by first | decide | omega) (c_J1_leftOfE (o := some g) (o' := some q) P (fun _ e => by cases e; exact y1) hy ?_)
                    refine V_acmp_ne (rx := (some (ad p))) (ry := (some (ad q))) 151 dJ1_fixAfterInsertion_41 (by decide) (fun _ => ?_) (fun c_41 => (absurd (P.2.2.2.1 _ _ z1 x2 (Option.some.inj c_41)) (Ne.symm nqp)))
                    refine V_aload_n dJ1_fixAfterInsertion_151 rfl ?_
                    refine V_invS (M' := mJ1_parentOf) (As := [.ref (ad i)]) (rest := []) okJ1_parentOf dJ1_fixAfterInsertion_152 q690 rfl rfl rfl (Nat.le_of_ble_eq_true rfl) (d' := 0) (b1 := 0) (by first | decide | omega) (by first | decide | omega) (c_J1_parentOfE (o := some i) (o' := some p) P (fun _ e => by cases e; exact h0) hp ?_)
                    refine V_invS (M' := mJ1_parentOf) (As := [.ref (ad p)]) (rest := []) okJ1_parentOf dJ1_fixAfterInsertion_155 q690 rfl rfl rfl (Nat.le_of_ble_eq_true rfl) (d' := 0) (b1 := 0) (by first | decide | omega) (by first | decide | omega) (c_J1_parentOfE (o := some p) (o' := some g) P (fun _ e => by cases e; exact z1) hg ?_)
                    refine V_invS (M' := mJ1_leftOf) (As := [.ref (ad g)]) (rest := []) okJ1_leftOf dJ1_fixAfterInsertion_158 q693 rfl rfl rfl (Nat.le_of_ble_eq_true rfl) (d' := 0) (b1 := 0) (by first | decide | omega) (by first | decide | omega) (c_J1_leftOfE (o := some g) (o' := some q) P (fun _ e => by cases e; exact y1) hy ?_)
                    refine V_astore_n dJ1_fixAfterInsertion_161 (by decide) ?_
                    refine V_aload_n dJ1_fixAfterInsertion_162 rfl ?_
                    refine V_invS (M' := mJ1_colorOf) (As := [.ref (ad q)]) (rest := []) okJ1_colorOf dJ1_fixAfterInsertion_163 q699 rfl rfl rfl (Nat.le_of_ble_eq_true rfl) (d' := 0) (b1 := 0) (by first | decide | omega) (by first | decide | omega) (c_J1_colorOfE (o := some q) (x := cV none) P (fun _ e => by cases e; exact x2) (congrArg cV hcq) ?_)
                    refine V_topE 0 rfl ?_
                    refine V_if_ne 204 dJ1_fixAfterInsertion_166 (by decide) (by first | omega | decide) (fun c_166 => absurd c_166 (by decide)) (fun c_166 => ?_)
                    refine V_aload_n dJ1_fixAfterInsertion_169 rfl ?_
                    refine V_invS (M' := mJ1_parentOf) (As := [.ref (ad i)]) (rest := []) okJ1_parentOf dJ1_fixAfterInsertion_170 q690 rfl rfl rfl (Nat.le_of_ble_eq_true rfl) (d' := 0) (b1 := 0) (by first | decide | omega) (by first | decide | omega) (c_J1_parentOfE (o := some i) (o' := some p) P (fun _ e => by cases e; exact h0) hp ?_)
                    refine V_iconst dJ1_fixAfterInsertion_173 ?_
                    refine V_invS (M' := mJ1_setColor) (As := [.ref (ad p), vI 1]) (rest := []) okJ1_setColor dJ1_fixAfterInsertion_174 q702 rfl rfl rfl (Nat.le_of_ble_eq_true rfl) (d' := 0) (b1 := 0) (by first | decide | omega) (by first | decide | omega) (c_J1_setColorE (o := some p) (c := some 0) (T' := tup T 4 p (some 0)) P (fun _ e => by cases e; exact z1) rfl (fun hh174_1 P174_1 => ?_))
                    refine V_aload_n dJ1_fixAfterInsertion_177 rfl ?_
                    refine V_iconst dJ1_fixAfterInsertion_178 ?_
                    refine V_invS (M' := mJ1_setColor) (As := [.ref (ad q), vI 1]) (rest := []) okJ1_setColor dJ1_fixAfterInsertion_179 q702 rfl rfl rfl (Nat.le_of_ble_eq_true rfl) (d' := 0) (b1 := 0) (by first | decide | omega) (by first | decide | omega) (c_J1_setColorE (o := some q) (c := some 0) (T' := tup (tup T 4 p (some 0)) 4 q (some 0)) P174_1 (fun _ e => by cases e; exact x2) rfl (fun hh179_2 P179_2 => ?_))
                    refine V_aload_n dJ1_fixAfterInsertion_182 rfl ?_
                    refine V_invS (M' := mJ1_parentOf) (As := [.ref (ad i)]) (rest := []) okJ1_parentOf dJ1_fixAfterInsertion_183 q690 rfl rfl rfl (Nat.le_of_ble_eq_true rfl) (d' := 0) (b1 := 0) (by first | decide | omega) (by first | decide | omega) (c_J1_parentOfE (o := some i) (o' := some p) P179_2 (fun _ e => by cases e; exact h0) ((tup_nk (by decide)).trans ((tup_nk (by decide)).trans hp)) ?_)
                    refine V_invS (M' := mJ1_parentOf) (As := [.ref (ad p)]) (rest := []) okJ1_parentOf dJ1_fixAfterInsertion_186 q690 rfl rfl rfl (Nat.le_of_ble_eq_true rfl) (d' := 0) (b1 := 0) (by first | decide | omega) (by first | decide | omega) (c_J1_parentOfE (o := some p) (o' := some g) P179_2 (fun _ e => by cases e; exact z1) ((tup_nk (by decide)).trans ((tup_nk (by decide)).trans hg)) ?_)
                    refine V_iconst dJ1_fixAfterInsertion_189 ?_
                    refine V_invS (M' := mJ1_setColor) (As := [.ref (ad g), vI 0]) (rest := []) okJ1_setColor dJ1_fixAfterInsertion_190 q702 rfl rfl rfl (Nat.le_of_ble_eq_true rfl) (d' := 0) (b1 := 0) (by first | decide | omega) (by first | decide | omega) (c_J1_setColorE (o := some g) (c := none) (T' := tup (tup (tup T 4 p (some 0)) 4 q (some 0)) 4 g none) P179_2 (fun _ e => by cases e; exact y1) rfl (fun hh190_3 P190_3 => ?_))
                    refine V_aload_n dJ1_fixAfterInsertion_193 rfl ?_
                    refine V_invS (M' := mJ1_parentOf) (As := [.ref (ad i)]) (rest := []) okJ1_parentOf dJ1_fixAfterInsertion_194 q690 rfl rfl rfl (Nat.le_of_ble_eq_true rfl) (d' := 0) (b1 := 0) (by first | decide | omega) (by first | decide | omega) (c_J1_parentOfE (o := some i) (o' := some p) P190_3 (fun _ e => by cases e; exact h0) ((tup_nk (by decide)).trans ((tup_nk (by decide)).trans ((tup_nk (by decide)).trans hp))) ?_)
                    refine V_invS (M' := mJ1_parentOf) (As := [.ref (ad p)]) (rest := []) okJ1_parentOf dJ1_fixAfterInsertion_197 q690 rfl rfl rfl (Nat.le_of_ble_eq_true rfl) (d' := 0) (b1 := 0) (by first | decide | omega) (by first | decide | omega) (c_J1_parentOfE (o := some p) (o' := some g) P190_3 (fun _ e => by cases e; exact z1) ((tup_nk (by decide)).trans ((tup_nk (by decide)).trans ((tup_nk (by decide)).trans hg))) ?_)
                    refine V_astore_n dJ1_fixAfterInsertion_200 (by decide) ?_
                    refine V_goto 255 dJ1_fixAfterInsertion_201 (by decide) ?_
                    refine V_goto 5 dJ1_fixAfterInsertion_255 (by decide) ?_
                    exact fin q _ P190_3 _
                  · refine V_aload_n dJ1_fixAfterInsertion_5 rfl ?_
                    refine V_ifnull dJ1_fixAfterInsertion_6 ?_
                    refine V_aload_n dJ1_fixAfterInsertion_9 rfl ?_
                    refine V_aload_n dJ1_fixAfterInsertion_10 rfl ?_
                    refine VT_getRoot P dJ1_fixAfterInsertion_11 q190 (o := some r) hr ?_
                    refine V_acmp_eq (rx := (some (ad i))) (ry := (some (ad r))) 258 dJ1_fixAfterInsertion_14 (by decide) (fun c_14 => (absurd (P.2.2.2.1 _ _ h0 b1 (Option.some.inj c_14)) nir)) (fun _ => ?_)
                    refine V_aload_n dJ1_fixAfterInsertion_17 rfl ?_
                    refine VT_get 2 (by decide) P h0 dJ1_fixAfterInsertion_18 q663 (o := some p) hp ?_
                    refine VT_getC P z1 dJ1_fixAfterInsertion_21 q665 (o := none) hc ?_
                    refine V_topE 0 rfl ?_
                    refine V_if_ne 258 dJ1_fixAfterInsertion_24 (by decide) (by first | omega | decide) (fun c_24 => absurd c_24 (by decide)) (fun c_24 => ?_)
                    refine V_aload_n dJ1_fixAfterInsertion_27 rfl ?_
                    refine V_invS (M' := mJ1_parentOf) (As := [.ref (ad i)]) (rest := []) okJ1_parentOf dJ1_fixAfterInsertion_28 q690 rfl rfl rfl (Nat.le_of_ble_eq_true rfl) (d' := 0) (b1 := 0) (by first | decide | omega) (by first | decide | omega) (c_J1_parentOfE (o := some i) (o' := some p) P (fun _ e => by cases e; exact h0) hp ?_)
                    refine V_aload_n dJ1_fixAfterInsertion_31 rfl ?_
                    refine V_invS (M' := mJ1_parentOf) (As := [.ref (ad i)]) (rest := [.ref (ad p)]) okJ1_parentOf dJ1_fixAfterInsertion_32 q690 rfl rfl rfl (Nat.le_of_ble_eq_true rfl) (d' := 0) (b1 := 0) (by first | decide | omega) (by first | decide | omega) (c_J1_parentOfE (o := some i) (o' := some p) P (fun _ e => by cases e; exact h0) hp ?_)
                    refine V_invS (M' := mJ1_parentOf) (As := [.ref (ad p)]) (rest := [.ref (ad p)]) okJ1_parentOf dJ1_fixAfterInsertion_35 q690 rfl rfl rfl (Nat.le_of_ble_eq_true rfl) (d' := 0) (b1 := 0) (by first | decide | omega) (by first | decide | omega) (c_J1_parentOfE (o := some p) (o' := some g) P (fun _ e => by cases e; exact z1) hg ?_)
                    refine V_invS (M' := mJ1_leftOf) (As := [.ref (ad g)]) (rest := [.ref (ad p)]) okJ1_leftOf dJ1_fixAfterInsertion_38 q693 rfl rfl rfl (Nat.le_of_ble_eq_true rfl) (d' := 0) (b1 := 0) (by first | decide | omega) (by first | decide | omega) (c_J1_leftOfE (o := some g) (o' := some q) P (fun _ e => by cases e; exact y1) hy ?_)
                    refine V_acmp_ne (rx := (some (ad p))) (ry := (some (ad q))) 151 dJ1_fixAfterInsertion_41 (by decide) (fun _ => ?_) (fun c_41 => (absurd (P.2.2.2.1 _ _ z1 x2 (Option.some.inj c_41)) (Ne.symm nqp)))
                    refine V_aload_n dJ1_fixAfterInsertion_151 rfl ?_
                    refine V_invS (M' := mJ1_parentOf) (As := [.ref (ad i)]) (rest := []) okJ1_parentOf dJ1_fixAfterInsertion_152 q690 rfl rfl rfl (Nat.le_of_ble_eq_true rfl) (d' := 0) (b1 := 0) (by first | decide | omega) (by first | decide | omega) (c_J1_parentOfE (o := some i) (o' := some p) P (fun _ e => by cases e; exact h0) hp ?_)
                    refine V_invS (M' := mJ1_parentOf) (As := [.ref (ad p)]) (rest := []) okJ1_parentOf dJ1_fixAfterInsertion_155 q690 rfl rfl rfl (Nat.le_of_ble_eq_true rfl) (d' := 0) (b1 := 0) (by first | decide | omega) (by first | decide | omega) (c_J1_parentOfE (o := some p) (o' := some g) P (fun _ e => by cases e; exact z1) hg ?_)
                    refine V_invS (M' := mJ1_leftOf) (As := [.ref (ad g)]) (rest := []) okJ1_leftOf dJ1_fixAfterInsertion_158 q693 rfl rfl rfl (Nat.le_of_ble_eq_true rfl) (d' := 0) (b1 := 0) (by first | decide | omega) (by first | decide | omega) (c_J1_leftOfE (o := some g) (o' := some q) P (fun _ e => by cases e; exact y1) hy ?_)
                    refine V_astore_n dJ1_fixAfterInsertion_161 (by decide) ?_
                    refine V_aload_n dJ1_fixAfterInsertion_162 rfl ?_
                    refine V_invS (M' := mJ1_colorOf) (As := [.ref (ad q)]) (rest := []) okJ1_colorOf dJ1_fixAfterInsertion_163 q699 rfl rfl rfl (Nat.le_of_ble_eq_true rfl) (d' := 0) (b1 := 0) (by first | decide | omega) (by first | decide | omega) (c_J1_colorOfE (o := some q) (x := cV (some cq)) P (fun _ e => by cases e; exact x2) (congrArg cV hcq) ?_)
                    refine V_topE 1 rfl ?_
                    refine V_if_ne 204 dJ1_fixAfterInsertion_166 (by decide) (by first | omega | decide) (fun c_166 => ?_) (fun c_166 => absurd c_166 (by decide))
                    exact fixI_B P S h0 hp hg hl' K'
          · refine V_aload_n dJ1_fixAfterInsertion_5 rfl ?_
            refine V_ifnull dJ1_fixAfterInsertion_6 ?_
            refine V_aload_n dJ1_fixAfterInsertion_9 rfl ?_
            refine V_aload_n dJ1_fixAfterInsertion_10 rfl ?_
            refine VT_getRoot P dJ1_fixAfterInsertion_11 q190 (o := some r) hr ?_
            refine V_acmp_eq (rx := (some (ad i))) (ry := (some (ad r))) 258 dJ1_fixAfterInsertion_14 (by decide) (fun c_14 => (absurd (P.2.2.2.1 _ _ h0 b1 (Option.some.inj c_14)) nir)) (fun _ => ?_)
            refine V_aload_n dJ1_fixAfterInsertion_17 rfl ?_
            refine VT_get 2 (by decide) P h0 dJ1_fixAfterInsertion_18 q663 (o := some p) hp ?_
            refine VT_getC P z1 dJ1_fixAfterInsertion_21 q665 (o := some c) hc ?_
            refine V_topE 1 rfl ?_
            refine V_if_ne 258 dJ1_fixAfterInsertion_24 (by decide) (by first | omega | decide) (fun c_24 => ?_) (fun c_24 => absurd c_24 (by decide))
            exact fixI_end P S (by omega) K'
theorem c_J1_fixAfterInsertion (P : TH h a n ad K W vs cmp nk sz mc hh T) (S : Tsh n T lo hi) (h0 : i < n) (RB : T 3 0 = some i ∨ ∀ r, T 3 0 = some r → T 4 r ≠ none) (K' : KT h a n ad K W vs cmp nk sz mc Q) : V E mJ1_fixAfterInsertion 1 0 0 [some (.ref a), some (.ref (ad i)), none] [] (ovl h a hh) Q X := by
  refine V_aload_n dJ1_fixAfterInsertion_0 rfl ?_
  refine V_iconst dJ1_fixAfterInsertion_1 ?_
  refine VT_putC P h0 dJ1_fixAfterInsertion_2 q665 (none) rfl (fun hh2_1 P2_1 => ?_)
  exact fixI_L (n - (hi i - lo i)) P2_1 (Tsh.col S) h0 (Nat.le_refl _) (by rcases RB with RB | RB; exact Or.inl (by simp [tup, RB]); exact (by by_cases e : T 3 0 = some i; exact Or.inl (by simp [tup, e]); exact Or.inr (fun r hr => by simp [tup] at hr; have hne : r ≠ i := (by rintro rfl; exact e hr); simp [tup, hne]; exact RB r hr))) K'
end TM6
