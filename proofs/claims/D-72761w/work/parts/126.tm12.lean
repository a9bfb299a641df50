/-! TREES: fixAfterDeletion, of an entry that spans the first place -/
section TM12
variable {E : Ev} {a n i p r x s : Nat} {h hh : AH} {Q : Value → AH → Prop} {X : Nat → AH → Prop} {ad K W : Nat → Nat} {vs cmp nk : Value} {sz mc : Int} {T : TT} {lo hi : Nat → Nat} {zz : Prop} {l1 l2 : Option Value}
abbrev RBk (T : TT) : Prop := ∀ r, T 3 0 = some r → T 4 r ≠ none
abbrev KD (h : AH) (a n : Nat) (ad K W : Nat → Nat) (vs cmp nk : Value) (sz mc : Int) (zz : Prop) (Q : Value → AH → Prop) : Prop := ∀ (hh' : AH) (T' : TT) (lo' hi' : Nat → Nat), TH h a n ad K W vs cmp nk sz mc hh' T' → Tsh n T' lo' hi' → RBk T' → (zz → T' 1 0 = none) → Q .null (ovl h a hh')
theorem delF_end (P : TH h a n ad K W vs cmp nk sz mc hh T) (S : Tsh n T lo hi) (h0 : i < n) (RB : T 3 0 = some i ∨ RBk T) (Z : zz → T 1 0 = none) (K' : KD h a n ad K W vs cmp nk sz mc zz Q) : V E mJ1_fixAfterDeletion 1 0 345 [some (.ref a), some (.ref (ad i)), l2] [] (ovl h a hh) Q X := by
  refine V_aload_n dJ1_fixAfterDeletion_345 rfl ?_
  refine V_iconst dJ1_fixAfterDeletion_346 ?_
  refine V_invS (M' := mJ1_setColor) (As := [.ref (ad i), vI 1]) (rest := []) okJ1_setColor dJ1_fixAfterDeletion_347 q702 rfl rfl rfl (Nat.le_of_ble_eq_true rfl) (d' := 0) (b1 := 0) (by first | decide | omega) (by first | decide | omega) (c_J1_setColorE (o := some i) (c := some 0) (T' := tup T 4 i (some 0)) P (fun _ e => by cases e; exact h0) rfl (fun hh347_1 P347_1 => ?_))
  exact V_vret dJ1_fixAfterDeletion_350 rfl (by exact K' _ _ _ _ P347_1 (Tsh.col S) (fun r hr => by rw [tup_nk (by decide)] at hr; by_cases e : r = i; subst e; rw [tup_eq]; simp; rw [tup_ni e]; rcases RB with z | z; rw [z] at hr; cases hr; exact absurd rfl e; exact z r hr) (fun z => by rw [tup_nk (by decide)]; exact Z z))
theorem delF_143 (P : TH h a n ad K W vs cmp nk sz mc hh T) (S : Tsh n T lo hi) (h0 : i < n) (hp : T 2 i = some p) (hl : T 0 p = some i) (hs : T 1 p = some s) (hlo : lo i = 0) (Z : zz → T 1 0 = none) (K' : KD h a n ad K W vs cmp nk sz mc zz Q) : V E mJ1_fixAfterDeletion 1 0 143 [some (.ref a), some (.ref (ad i)), some (.ref (ad s))] [] (ovl h a hh) Q X := by
  obtain ⟨S0, S1, S2⟩ := id S
  obtain ⟨a1, a2, a3, a4, a5, a6, a7, a8, a9⟩ := S2 i h0
  have hpn := (a9 p hp).1
  obtain ⟨b1, b2, b3, b4, b5, b6, b7, b8, b9⟩ := S2 p hpn
  obtain ⟨c1, c2, c3, c4, c5⟩ := b7 s hs
  obtain ⟨d1, d2, d3, d4⟩ := b5 i hl
  have nsp : s ≠ p := by omega
  have zr : ∀ T' : TT, (∀ k j, k ≠ 4 → T' k j = T k j) → zz → rotL T' p s 1 0 = none := fun T' hT' hz => by
    have e0 : (0 : Nat) ≠ p := by omega
    have e1 : T 2 p ≠ some 0 := by
      intro e
      obtain ⟨-, q2⟩ := b9 0 e
      obtain ⟨g1, g2, g3, g4, g5, g6, g7, g8, g9⟩ := S2 0 (by omega)
      rcases q2 with q2 | q2
      · have := g5 p q2; omega
      · have := g7 p q2; omega
    show (if 0 = p then T' 0 s else if T' 2 p = some 0 ∧ T' 0 0 ≠ some p then some s else T' 1 0) = none
    rw [if_neg e0, hT' 2 p (by decide), if_neg (fun e => e1 e.1), hT' 1 0 (by decide)]
    exact Z hz
  have fin : ∀ (hh' : AH) (T' : TT), TH h a n ad K W vs cmp nk sz mc hh' T' → ∀ lo' hi', Tsh n T' lo' hi' → (zz → T' 1 0 = none) → ∀ l2 r, T' 3 0 = some r → V E mJ1_fixAfterDeletion 1 0 0 [some (.ref a), some (.ref (ad r)), l2] [] (ovl h a hh') Q X := by
    intro hh' T' P' lo' hi' S' Z' l2 r hr
    have hrn := (S'.2.1 r hr).1
    refine V_aload_n dJ1_fixAfterDeletion_0 rfl ?_
    refine V_aload_n dJ1_fixAfterDeletion_1 rfl ?_
    refine VT_getRoot P' dJ1_fixAfterDeletion_2 q190 (o := some r) hr ?_
    refine V_acmp_eq (rx := (some (ad r))) (ry := (some (ad r))) 345 dJ1_fixAfterDeletion_5 (by decide) (fun _ => ?_) (fun c_5 => absurd rfl c_5)
    exact delF_end P' S' hrn (Or.inl hr) Z' K'
  rcases hq : T 1 s with _ | q
  · have S' := Tsh.col (x := some 0) (i := p) (Tsh.col (x := T 4 p) (i := s) S)
    rcases hr : rotL (tup (tup T 4 s (T 4 p)) 4 p (some 0)) p s 3 0 with _ | r
    · exact absurd ((Tsh_rotL S' hpn (by simp [tup, hs])).1 hr) (by omega)
    · refine V_aload_n dJ1_fixAfterDeletion_143 rfl ?_
      refine V_aload_n dJ1_fixAfterDeletion_144 rfl ?_
      refine V_invS (M' := mJ1_parentOf) (As := [.ref (ad i)]) (rest := [.ref (ad s)]) okJ1_parentOf dJ1_fixAfterDeletion_145 q690 rfl rfl rfl (Nat.le_of_ble_eq_true rfl) (d' := 0) (b1 := 0) (by first | decide | omega) (by first | decide | omega) (c_J1_parentOfE (o := some i) (o' := some p) P (fun _ e => by cases e; exact h0) hp ?_)
      refine V_invS (M' := mJ1_colorOf) (As := [.ref (ad p)]) (rest := [.ref (ad s)]) okJ1_colorOf dJ1_fixAfterDeletion_148 q699 rfl rfl rfl (Nat.le_of_ble_eq_true rfl) (d' := 0) (b1 := 0) (by first | decide | omega) (by first | decide | omega) (c_J1_colorOfE (o := some p) (x := cV (T 4 p)) P (fun _ e => by cases e; exact hpn) (congrArg cV rfl) ?_)
      refine V_invS (M' := mJ1_setColor) (As := [.ref (ad s), vI (cV (T 4 p))]) (rest := []) okJ1_setColor dJ1_fixAfterDeletion_151 q702 rfl rfl rfl (Nat.le_of_ble_eq_true rfl) (d' := 0) (b1 := 0) (by first | decide | omega) (by first | decide | omega) (c_J1_setColorE (o := some s) (c := (T 4 p)) (T' := tup T 4 s (T 4 p)) P (fun _ e => by cases e; exact c2) rfl (fun hh151_1 P151_1 => ?_))
      refine V_aload_n dJ1_fixAfterDeletion_154 rfl ?_
      refine V_invS (M' := mJ1_parentOf) (As := [.ref (ad i)]) (rest := []) okJ1_parentOf dJ1_fixAfterDeletion_155 q690 rfl rfl rfl (Nat.le_of_ble_eq_true rfl) (d' := 0) (b1 := 0) (by first | decide | omega) (by first | decide | omega) (c_J1_parentOfE (o := some i) (o' := some p) P151_1 (fun _ e => by cases e; exact h0) ((tup_nk (by decide)).trans hp) ?_)
      refine V_iconst dJ1_fixAfterDeletion_158 ?_
      refine V_invS (M' := mJ1_setColor) (As := [.ref (ad p), vI 1]) (rest := []) okJ1_setColor dJ1_fixAfterDeletion_159 q702 rfl rfl rfl (Nat.le_of_ble_eq_true rfl) (d' := 0) (b1 := 0) (by first | decide | omega) (by first | decide | omega) (c_J1_setColorE (o := some p) (c := some 0) (T' := tup (tup T 4 s (T 4 p)) 4 p (some 0)) P151_1 (fun _ e => by cases e; exact hpn) rfl (fun hh159_2 P159_2 => ?_))
      refine V_aload_n dJ1_fixAfterDeletion_162 rfl ?_
      refine V_invS (M' := mJ1_rightOf) (As := [.ref (ad s)]) (rest := []) okJ1_rightOf dJ1_fixAfterDeletion_163 q696 rfl rfl rfl (Nat.le_of_ble_eq_true rfl) (d' := 0) (b1 := 0) (by first | decide | omega) (by first | decide | omega) (c_J1_rightOfE (o := some s) (o' := none) P159_2 (fun _ e => by cases e; exact c2) ((tup_nk (by decide)).trans ((tup_nk (by decide)).trans hq)) ?_)
      refine V_iconst dJ1_fixAfterDeletion_166 ?_
      refine V_invS (M' := mJ1_setColor) (As := [.null, vI 1]) (rest := []) okJ1_setColor dJ1_fixAfterDeletion_167 q702 rfl rfl rfl (Nat.le_of_ble_eq_true rfl) (d' := 0) (b1 := 0) (by first | decide | omega) (by first | decide | omega) (c_J1_setColorE (o := none) (c := some 0) (T' := tup (tup T 4 s (T 4 p)) 4 p (some 0)) P159_2 (fun _ e => by cases e) rfl (fun hh167_3 P167_3 => ?_))
      refine V_aload_n dJ1_fixAfterDeletion_170 rfl ?_
      refine V_aload_n dJ1_fixAfterDeletion_171 rfl ?_
      refine V_invS (M' := mJ1_parentOf) (As := [.ref (ad i)]) (rest := [.ref a]) okJ1_parentOf dJ1_fixAfterDeletion_172 q690 rfl rfl rfl (Nat.le_of_ble_eq_true rfl) (d' := 0) (b1 := 0) (by first | decide | omega) (by first | decide | omega) (c_J1_parentOfE (o := some i) (o' := some p) P167_3 (fun _ e => by cases e; exact h0) ((tup_nk (by decide)).trans ((tup_nk (by decide)).trans hp)) ?_)
      refine V_invVc (M' := mJ1_rotateLeft) (As := [.ref (ad p)]) (rest := []) okJ1_rotateLeft dJ1_fixAfterDeletion_175 q705 rfl rfl (clsE.o P167_3.ob) rfl rfl (Nat.le_of_ble_eq_true rfl) (d' := 0) (b1 := 0) (by first | decide | omega) (by first | decide | omega) (c_J1_rotateLeft P167_3 S' hpn ((tup_nk (by decide)).trans ((tup_nk (by decide)).trans hs)) (fun hh175_4 P175_4 => ?_))
      refine V_aload_n dJ1_fixAfterDeletion_178 rfl ?_
      refine VT_getRoot P175_4 dJ1_fixAfterDeletion_179 q190 (o := some r) hr ?_
      refine V_astore_n dJ1_fixAfterDeletion_182 (by decide) ?_
      refine V_goto 0 dJ1_fixAfterDeletion_183 (by decide) ?_
      exact fin _ _ P175_4 _ _ (Tsh_rotL S' hpn (by simp [tup, hs])) (zr _ (fun k j hk => by rw [tup_nk hk, tup_nk hk])) _ r hr
  · obtain ⟨g1, g2, g3, g4, g5⟩ := (S2 s c2).2.2.2.2.2.2.1 q hq
    have S' := Tsh.col (x := some 0) (i := q) (Tsh.col (x := some 0) (i := p) (Tsh.col (x := T 4 p) (i := s) S))
    rcases hr : rotL (tup (tup (tup T 4 s (T 4 p)) 4 p (some 0)) 4 q (some 0)) p s 3 0 with _ | r
    · exact absurd ((Tsh_rotL S' hpn (by simp [tup, hs])).1 hr) (by omega)
    · refine V_aload_n dJ1_fixAfterDeletion_143 rfl ?_
      refine V_aload_n dJ1_fixAfterDeletion_144 rfl ?_
      refine V_invS (M' := mJ1_parentOf) (As := [.ref (ad i)]) (rest := [.ref (ad s)]) okJ1_parentOf dJ1_fixAfterDeletion_145 q690 rfl rfl rfl (Nat.le_of_ble_eq_true rfl) (d' := 0) (b1 := 0) (by first | decide | omega) (by first | decide | omega) (c_J1_parentOfE (o := some i) (o' := some p) P (fun _ e => by cases e; exact h0) hp ?_)
      refine V_invS (M' := mJ1_colorOf) (As := [.ref (ad p)]) (rest := [.ref (ad s)]) okJ1_colorOf dJ1_fixAfterDeletion_148 q699 rfl rfl rfl (Nat.le_of_ble_eq_true rfl) (d' := 0) (b1 := 0) (by first | decide | omega) (by first | decide | omega) (c_J1_colorOfE (o := some p) (x := cV (T 4 p)) P (fun _ e => by cases e; exact hpn) (congrArg cV rfl) ?_)
      refine V_invS (M' := mJ1_setColor) (As := [.ref (ad s), vI (cV (T 4 p))]) (rest := []) okJ1_setColor dJ1_fixAfterDeletion_151 q702 rfl rfl rfl (Nat.le_of_ble_eq_true rfl) (d' := 0) (b1 := 0) (by first | decide | omega) (by first | decide | omega) (c_J1_setColorE (o := some s) (c := (T 4 p)) (T' := tup T 4 s (T 4 p)) P (fun _ e => by cases e; exact c2) rfl (fun hh151_1 P151_1 => ?_))
      refine V_aload_n dJ1_fixAfterDeletion_154 rfl ?_
      refine V_invS (M' := mJ1_parentOf) (As := [.ref (ad i)]) (rest := []) okJ1_parentOf dJ1_fixAfterDeletion_155 q690 rfl rfl rfl (Nat.le_of_ble_eq_true rfl) (d' := 0) (b1 := 0) (by first | decide | omega) (by first | decide | omega) (c_J1_parentOfE (o := some i) (o' := some p) P151_1 (fun _ e => by cases e; exact h0) ((tup_nk (by decide)).trans hp) ?_)
      refine V_iconst dJ1_fixAfterDeletion_158 ?_
      refine V_invS (M' := mJ1_setColor) (As := [.ref (ad p), vI 1]) (rest := []) okJ1_setColor dJ1_fixAfterDeletion_159 q702 rfl rfl rfl (Nat.le_of_ble_eq_true rfl) (d' := 0) (b1 := 0) (by first | decide | omega) (by first | decide | omega) (c_J1_setColorE (o := some p) (c := some 0) (T' := tup (tup T 4 s (T 4 p)) 4 p (some 0)) P151_1 (fun _ e => by cases e; exact hpn) rfl (fun hh159_2 P159_2 => ?_))
      refine V_aload_n dJ1_fixAfterDeletion_162 rfl ?_
      refine V_invS (M' := mJ1_rightOf) (As := [.ref (ad s)]) (rest := []) okJ1_rightOf dJ1_fixAfterDeletion_163 q696 rfl rfl rfl (Nat.le_of_ble_eq_true rfl) (d' := 0) (b1 := 0) (by first | decide | omega) (by first | decide | omega) (c_J1_rightOfE (o := some s) (o' := some q) P159_2 (fun _ e => by cases e; exact c2) ((tup_nk (by decide)).trans ((tup_nk (by decide)).trans hq)) ?_)
      refine V_iconst dJ1_fixAfterDeletion_166 ?_
      refine V_invS (M' := mJ1_setColor) (As := [.ref (ad q), vI 1]) (rest := []) okJ1_setColor dJ1_fixAfterDeletion_167 q702 rfl rfl rfl (Nat.le_of_ble_eq_true rfl) (d' := 0) (b1 := 0) (by first | decide | omega) (by first | decide | omega) (c_J1_setColorE (o := some q) (c := some 0) (T' := tup (tup (tup T 4 s (T 4 p)) 4 p (some 0)) 4 q (some 0)) P159_2 (fun _ e => by cases e; exact g2) rfl (fun hh167_3 P167_3 => ?_))
      refine V_aload_n dJ1_fixAfterDeletion_170 rfl ?_
      refine V_aload_n dJ1_fixAfterDeletion_171 rfl ?_
      refine V_invS (M' := mJ1_parentOf) (As := [.ref (ad i)]) (rest := [.ref a]) okJ1_parentOf dJ1_fixAfterDeletion_172 q690 rfl rfl rfl (Nat.le_of_ble_eq_true rfl) (d' := 0) (b1 := 0) (by first | decide | omega) (by first | decide | omega) (c_J1_parentOfE (o := some i) (o' := some p) P167_3 (fun _ e => by cases e; exact h0) ((tup_nk (by decide)).trans ((tup_nk (by decide)).trans ((tup_nk (by decide)).trans hp))) ?_)
      refine V_invVc (M' := mJ1_rotateLeft) (As := [.ref (ad p)]) (rest := []) okJ1_rotateLeft dJ1_fixAfterDeletion_175 q705 rfl rfl (clsE.o P167_3.ob) rfl rfl (Nat.le_of_ble_eq_true rfl) (d' := 0) (b1 := 0) (by first | decide | omega) (by first | decide | omega) (c_J1_rotateLeft P167_3 S' hpn ((tup_nk (by decide)).trans ((tup_nk (by decide)).trans ((tup_nk (by decide)).trans hs))) (fun hh175_4 P175_4 => ?_))
      refine V_aload_n dJ1_fixAfterDeletion_178 rfl ?_
      refine VT_getRoot P175_4 dJ1_fixAfterDeletion_179 q190 (o := some r) hr ?_
      refine V_astore_n dJ1_fixAfterDeletion_182 (by decide) ?_
      refine V_goto 0 dJ1_fixAfterDeletion_183 (by decide) ?_
      exact fin _ _ P175_4 _ _ (Tsh_rotL S' hpn (by simp [tup, hs])) (zr _ (fun k j hk => by rw [tup_nk hk, tup_nk hk, tup_nk hk])) _ r hr
end TM12
