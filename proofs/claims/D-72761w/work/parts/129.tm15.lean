/-! TREES: the first entry deleted, II -/
section TM15
variable {E : Ev} {a n i p r x s : Nat} {h hh : AH} {Q : Value → AH → Prop} {X : Nat → AH → Prop} {ad K W : Nat → Nat} {vs cmp nk : Value} {sz mc : Int} {T : TT} {lo hi : Nat → Nat} {l1 l2 : Option Value}
/-- the first entry's child stands in its place -/
theorem del_sub (S : Tsh (n + 1) T lo hi) (hr : T 1 0 = some r) {T' : TT} {hh' : AH}
    (P' : TH h a (n + 1) ad K W vs cmp nk sz mc hh' T') (e0 : ∀ i, 1 ≤ i → T' 0 i = if T 2 0 = some i then some r else T 0 i) (e1 : ∀ i, 1 ≤ i → T' 1 i = T 1 i) (e2 : ∀ i, 1 ≤ i → T' 2 i = if i = r then T 2 0 else T 2 i) (e3 : T' 3 0 = if T 2 0 = none then some r else T 3 0) :
    TH h a n (sh1 ad) (sh1 K) (sh1 W) vs cmp nk sz mc hh' (shT T') ∧ Tsh n (shT T') (fun i => lo (i + 1) - 1) (fun i => hi (i + 1) - 1) := by
  have h0 := del_0 S
  obtain ⟨S0, S1, S2⟩ := id S
  obtain ⟨a1, a2, a3, a4, a5, a6, a7, a8, a9⟩ := S2 0 (by omega)
  obtain ⟨b1, b2, b3, b4, b5⟩ := a7 r hr
  constructor
  · refine TH_shift P' (fun k i j hk hi1 hin e => ?_) (fun j e => ?_)
    · have : k = 0 ∨ k = 1 ∨ k = 2 := by omega
      rcases this with rfl | rfl | rfl
      · rw [e0 i hi1] at e
        split at e
        · cases e; omega
        · rename_i c
          exact del_no S hk hi1 hin e (fun _ => c) (fun z => by cases z)
      · rw [e1 i hi1] at e
        exact del_no S hk hi1 hin e (fun z => by cases z) (fun z => by cases z)
      · rw [e2 i hi1] at e
        split at e
        · exact (h0.2.2 j e).1
        · rename_i c
          exact del_no S hk hi1 hin e (fun z => by cases z) (fun _ z => by rw [hr] at z; cases z; exact c rfl)
    · rw [e3] at e
      split at e
      · cases e; omega
      · rename_i c
        rcases Nat.eq_zero_or_pos j with rfl | z
        · exact absurd (S1 0 e).2.1 c
        · exact z
  · refine Tsh_congr (fun k i hk => ?_) ?_ (Tsh_del S h0.1)
    · have : k = 0 ∨ k = 1 ∨ k = 2 := by omega
      rcases this with rfl | rfl | rfl
      · show Option.map (· - 1) (T' 0 (i + 1)) = _
        rw [e0 _ (by omega)]
        simp only [delT, hr]
        split <;> rfl
      · show Option.map (· - 1) (T' 1 (i + 1)) = _
        rw [e1 _ (by omega)]
        rfl
      · show Option.map (· - 1) (T' 2 (i + 1)) = _
        rw [e2 _ (by omega)]
        simp only [delT, hr]
        by_cases c : i + 1 = r
        · rw [if_pos c, if_pos (by rw [c])]
        · rw [if_neg c, if_neg (fun z => c (Option.some.inj z).symm)]
    · show Option.map (· - 1) (T' 3 0) = _
      rw [e3]
      simp only [delT, hr]
      split <;> rfl
theorem c_J1_deleteEntry (P : TH h a (n + 1) ad K W vs cmp nk sz mc hh T) (S : Tsh (n + 1) T lo hi) (RB : RBk T) (K' : KX h a n ad K W vs cmp nk (sz - 1) (mc + 1) Q) : V E mJ1_deleteEntry 2 0 0 [some (.ref a), some (.ref (ad 0)), none] [] (ovl h a hh) Q X := by
  have h0 := del_0 S
  obtain ⟨S0, S1, S2⟩ := id S
  obtain ⟨a1, a2, a3, a4, a5, a6, a7, a8, a9⟩ := S2 0 (by omega)
  rcases hr : T 1 0 with _ | r
  · rcases hp : T 2 0 with _ | q
    · have e3 := a8 hp
      have hn : n = 0 := by have := S1 0 e3; have := a6 hr; omega
      subst hn
      refine V_aload_n dJ1_deleteEntry_0 rfl ?_
      refine V_dup dJ1_deleteEntry_1 rfl ?_
      refine V_getf okJ1 5 dJ1_deleteEntry_2 q192 (by decide) P.ob rfl ?_
      refine V_iconst dJ1_deleteEntry_5 ?_
      refine V_iadd dJ1_deleteEntry_6 ?_
      refine VT_putMc P dJ1_deleteEntry_7 q192   (fun hh7_1 P7_1 => ?_)
      refine V_aload_n dJ1_deleteEntry_10 rfl ?_
      refine V_dup dJ1_deleteEntry_11 rfl ?_
      refine V_getf okJ1 4 dJ1_deleteEntry_12 q191 (by decide) P7_1.ob rfl ?_
      refine V_iconst dJ1_deleteEntry_15 ?_
      refine V_isub dJ1_deleteEntry_16 ?_
      refine VT_putSz P7_1 dJ1_deleteEntry_17 q191   (fun hh17_2 P17_2 => ?_)
      refine V_aload_n dJ1_deleteEntry_20 rfl ?_
      refine VT_get 0 (by decide) P17_2 (Nat.succ_pos 0) dJ1_deleteEntry_21 q660 (o := none) h0.1 ?_
      refine V_ifnullN 57 dJ1_deleteEntry_24 (by decide) ?_
      refine V_aload_n dJ1_deleteEntry_57 rfl ?_
      refine VT_get 0 (by decide) P17_2 (Nat.succ_pos 0) dJ1_deleteEntry_58 q660 (o := none) h0.1 ?_
      refine V_ifnullN 71 dJ1_deleteEntry_61 (by decide) ?_
      refine V_aload_n dJ1_deleteEntry_71 rfl ?_
      refine VT_get 1 (by decide) P17_2 (Nat.succ_pos 0) dJ1_deleteEntry_72 q661 (o := none) hr ?_
      refine V_astore_nN dJ1_deleteEntry_75 (by decide) ?_
      refine V_aload_nN dJ1_deleteEntry_76 rfl ?_
      refine V_ifnullN 164 dJ1_deleteEntry_77 (by decide) ?_
      refine V_aload_n dJ1_deleteEntry_164 rfl ?_
      refine VT_get 2 (by decide) P17_2 (Nat.succ_pos 0) dJ1_deleteEntry_165 q663 (o := none) hp ?_
      refine V_ifnonnullN dJ1_deleteEntry_168 ?_
      refine V_aload_n dJ1_deleteEntry_171 rfl ?_
      refine V_null dJ1_deleteEntry_172 ?_
      refine VT_putRoot P17_2 dJ1_deleteEntry_173 q190 (o := none) (fun _ e => by cases e) (fun hh173_3 P173_3 => ?_)
      refine V_goto 245 dJ1_deleteEntry_176 (by decide) ?_
      exact V_vret dJ1_deleteEntry_245 rfl (by exact K' _ _ (fun _ => 0) (fun _ => 0) (TH_shift P173_3 (fun k i j hk hi hin e => by omega) (fun j e => by simp [tup] at e)) ⟨fun _ => rfl, fun r e => by simp [shT, tup] at e, fun i hi => by omega⟩ (fun r e => by simp [shT, tup] at e))
    · have hn : 0 < n := by have := h0.2.2 q hp; omega
      rcases hc : T 4 0 with _ | c
      · refine V_aload_n dJ1_deleteEntry_0 rfl ?_
        refine V_dup dJ1_deleteEntry_1 rfl ?_
        refine V_getf okJ1 5 dJ1_deleteEntry_2 q192 (by decide) P.ob rfl ?_
        refine V_iconst dJ1_deleteEntry_5 ?_
        refine V_iadd dJ1_deleteEntry_6 ?_
        refine VT_putMc P dJ1_deleteEntry_7 q192   (fun hh7_1 P7_1 => ?_)
        refine V_aload_n dJ1_deleteEntry_10 rfl ?_
        refine V_dup dJ1_deleteEntry_11 rfl ?_
        refine V_getf okJ1 4 dJ1_deleteEntry_12 q191 (by decide) P7_1.ob rfl ?_
        refine V_iconst dJ1_deleteEntry_15 ?_
        refine V_isub dJ1_deleteEntry_16 ?_
        refine VT_putSz P7_1 dJ1_deleteEntry_17 q191   (fun hh17_2 P17_2 => ?_)
        refine V_aload_n dJ1_deleteEntry_20 rfl ?_
        refine VT_get 0 (by decide) P17_2 (Nat.succ_pos n) dJ1_deleteEntry_21 q660 (o := none) h0.1 ?_
        refine V_ifnullN 57 dJ1_deleteEntry_24 (by decide) ?_
        refine V_aload_n dJ1_deleteEntry_57 rfl ?_
        refine VT_get 0 (by decide) P17_2 (Nat.succ_pos n) dJ1_deleteEntry_58 q660 (o := none) h0.1 ?_
        refine V_ifnullN 71 dJ1_deleteEntry_61 (by decide) ?_
        refine V_aload_n dJ1_deleteEntry_71 rfl ?_
        refine VT_get 1 (by decide) P17_2 (Nat.succ_pos n) dJ1_deleteEntry_72 q661 (o := none) hr ?_
        refine V_astore_nN dJ1_deleteEntry_75 (by decide) ?_
        refine V_aload_nN dJ1_deleteEntry_76 rfl ?_
        refine V_ifnullN 164 dJ1_deleteEntry_77 (by decide) ?_
        refine V_aload_n dJ1_deleteEntry_164 rfl ?_
        refine VT_get 2 (by decide) P17_2 (Nat.succ_pos n) dJ1_deleteEntry_165 q663 (o := some q) hp ?_
        refine V_ifnonnull 179 dJ1_deleteEntry_168 (by decide) ?_
        refine V_aload_n dJ1_deleteEntry_179 rfl ?_
        refine VT_getC P17_2 (Nat.succ_pos n) dJ1_deleteEntry_180 q665 (o := none) hc ?_
        refine V_topE 0 rfl ?_
        refine V_iconst dJ1_deleteEntry_183 ?_
        refine V_icmp_ne 192 dJ1_deleteEntry_184 (by decide) (by first | omega | decide) (by first | omega | decide) (fun c_184 => ?_) (fun c_184 => absurd c_184 (by decide))
        exact del_leaf P17_2 S RB hn hr K'
      · refine V_aload_n dJ1_deleteEntry_0 rfl ?_
        refine V_dup dJ1_deleteEntry_1 rfl ?_
        refine V_getf okJ1 5 dJ1_deleteEntry_2 q192 (by decide) P.ob rfl ?_
        refine V_iconst dJ1_deleteEntry_5 ?_
        refine V_iadd dJ1_deleteEntry_6 ?_
        refine VT_putMc P dJ1_deleteEntry_7 q192   (fun hh7_1 P7_1 => ?_)
        refine V_aload_n dJ1_deleteEntry_10 rfl ?_
        refine V_dup dJ1_deleteEntry_11 rfl ?_
        refine V_getf okJ1 4 dJ1_deleteEntry_12 q191 (by decide) P7_1.ob rfl ?_
        refine V_iconst dJ1_deleteEntry_15 ?_
        refine V_isub dJ1_deleteEntry_16 ?_
        refine VT_putSz P7_1 dJ1_deleteEntry_17 q191   (fun hh17_2 P17_2 => ?_)
        refine V_aload_n dJ1_deleteEntry_20 rfl ?_
        refine VT_get 0 (by decide) P17_2 (Nat.succ_pos n) dJ1_deleteEntry_21 q660 (o := none) h0.1 ?_
        refine V_ifnullN 57 dJ1_deleteEntry_24 (by decide) ?_
        refine V_aload_n dJ1_deleteEntry_57 rfl ?_
        refine VT_get 0 (by decide) P17_2 (Nat.succ_pos n) dJ1_deleteEntry_58 q660 (o := none) h0.1 ?_
        refine V_ifnullN 71 dJ1_deleteEntry_61 (by decide) ?_
        refine V_aload_n dJ1_deleteEntry_71 rfl ?_
        refine VT_get 1 (by decide) P17_2 (Nat.succ_pos n) dJ1_deleteEntry_72 q661 (o := none) hr ?_
        refine V_astore_nN dJ1_deleteEntry_75 (by decide) ?_
        refine V_aload_nN dJ1_deleteEntry_76 rfl ?_
        refine V_ifnullN 164 dJ1_deleteEntry_77 (by decide) ?_
        refine V_aload_n dJ1_deleteEntry_164 rfl ?_
        refine VT_get 2 (by decide) P17_2 (Nat.succ_pos n) dJ1_deleteEntry_165 q663 (o := some q) hp ?_
        refine V_ifnonnull 179 dJ1_deleteEntry_168 (by decide) ?_
        refine V_aload_n dJ1_deleteEntry_179 rfl ?_
        refine VT_getC P17_2 (Nat.succ_pos n) dJ1_deleteEntry_180 q665 (o := some c) hc ?_
        refine V_topE 1 rfl ?_
        refine V_iconst dJ1_deleteEntry_183 ?_
        refine V_icmp_ne 192 dJ1_deleteEntry_184 (by decide) (by first | omega | decide) (by first | omega | decide) (fun c_184 => absurd c_184 (by decide)) (fun c_184 => ?_)
        refine V_aload_n dJ1_deleteEntry_187 rfl ?_
        refine V_aload_n dJ1_deleteEntry_188 rfl ?_
        refine V_invVc (M' := mJ1_fixAfterDeletion) (As := [.ref (ad 0)]) (rest := []) okJ1_fixAfterDeletion dJ1_deleteEntry_189 q1042 rfl rfl (clsE.o P17_2.ob) rfl rfl (Nat.le_of_ble_eq_true rfl) (d' := 1) (b1 := 0) (by first | decide | omega) (by first | decide | omega) (c_J1_fixAfterDeletion (zz := True) P17_2 S (Nat.succ_pos n) h0.2.1 (Or.inr RB) (fun _ => hr) (fun hh189_3 T' lo' hi' P189_3 S' R' Z' => ?_))
        exact del_leaf P189_3 S' R' hn (Z' trivial) K'
  · obtain ⟨b1, b2, b3, b4, b5⟩ := a7 r hr
    have nr0 : r ≠ 0 := by omega
    have hrr : sh1 ad (r - 1) = ad r := by unfold sh1; rw [show r - 1 + 1 = r by omega]
    have hrn : r - 1 < n := by omega
    rcases hp : T 2 0 with _ | q
    · have e3 := a8 hp
      rcases hc : T 4 0 with _ | c
      · exact absurd hc (RB 0 e3)
      · have fin : ∀ hh', TH h a (n + 1) ad K W vs cmp nk (sz - 1) (mc + 1) hh' (tup (tup (tup (tup (tup T 2 r none) 3 0 (some r)) 2 0 none) 1 0 none) 0 0 none) → ∀ l2, V E mJ1_fixAfterDeletion 1 0 0 [some (.ref a), some (.ref (ad r)), none] [] (ovl h a hh') (fun v h' => V E mJ1_deleteEntry 2 0 161 [some (.ref a), some (.ref (ad 0)), l2] [] h' Q X) X := by
          intro hh' P' l2
          obtain ⟨P2, Sh⟩ := del_sub S hr P' (fun i hi => by have : i ≠ 0 := (by omega); simp [tup, this, hp]) (fun i hi => by have : i ≠ 0 := (by omega); simp [tup, this]) (fun i hi => by have : i ≠ 0 := (by omega); simp [tup, this, hp]) (by simp [tup, hp])
          have := c_J1_fixAfterDeletion (E := E) (X := X) (zz := False) (Q := fun v h' => V E mJ1_deleteEntry 2 0 161 [some (.ref a), some (.ref (ad 0)), l2] [] h' Q X) P2 Sh hrn (by show lo (r - 1 + 1) - 1 = 0; rw [show r - 1 + 1 = r by omega]; omega) (Or.inl (by simp [shT, tup])) (fun z => z.elim) (fun hh'' T' lo' hi' P'' S'' R'' _ => V_goto 245 dJ1_deleteEntry_161 (by decide) (V_vret dJ1_deleteEntry_245 rfl (K' hh'' T' lo' hi' P'' S'' R'')))
          rw [hrr] at this
          exact this
        refine V_aload_n dJ1_deleteEntry_0 rfl ?_
        refine V_dup dJ1_deleteEntry_1 rfl ?_
        refine V_getf okJ1 5 dJ1_deleteEntry_2 q192 (by decide) P.ob rfl ?_
        refine V_iconst dJ1_deleteEntry_5 ?_
        refine V_iadd dJ1_deleteEntry_6 ?_
        refine VT_putMc P dJ1_deleteEntry_7 q192   (fun hh7_1 P7_1 => ?_)
        refine V_aload_n dJ1_deleteEntry_10 rfl ?_
        refine V_dup dJ1_deleteEntry_11 rfl ?_
        refine V_getf okJ1 4 dJ1_deleteEntry_12 q191 (by decide) P7_1.ob rfl ?_
        refine V_iconst dJ1_deleteEntry_15 ?_
        refine V_isub dJ1_deleteEntry_16 ?_
        refine VT_putSz P7_1 dJ1_deleteEntry_17 q191   (fun hh17_2 P17_2 => ?_)
        refine V_aload_n dJ1_deleteEntry_20 rfl ?_
        refine VT_get 0 (by decide) P17_2 (Nat.succ_pos n) dJ1_deleteEntry_21 q660 (o := none) h0.1 ?_
        refine V_ifnullN 57 dJ1_deleteEntry_24 (by decide) ?_
        refine V_aload_n dJ1_deleteEntry_57 rfl ?_
        refine VT_get 0 (by decide) P17_2 (Nat.succ_pos n) dJ1_deleteEntry_58 q660 (o := none) h0.1 ?_
        refine V_ifnullN 71 dJ1_deleteEntry_61 (by decide) ?_
        refine V_aload_n dJ1_deleteEntry_71 rfl ?_
        refine VT_get 1 (by decide) P17_2 (Nat.succ_pos n) dJ1_deleteEntry_72 q661 (o := some r) hr ?_
        refine V_astore_n dJ1_deleteEntry_75 (by decide) ?_
        refine V_aload_n dJ1_deleteEntry_76 rfl ?_
        refine V_ifnull dJ1_deleteEntry_77 ?_
        refine V_aload_n dJ1_deleteEntry_80 rfl ?_
        refine V_aload_n dJ1_deleteEntry_81 rfl ?_
        refine VT_get 2 (by decide) P17_2 (Nat.succ_pos n) dJ1_deleteEntry_82 q663 (o := none) hp ?_
        refine VT_put 2 (by decide) P17_2 b2 dJ1_deleteEntry_85 q663 (o := none) (fun _ e => by cases e) (fun hh85_3 P85_3 => ?_)
        refine V_aload_n dJ1_deleteEntry_88 rfl ?_
        refine VT_get 2 (by decide) P85_3 (Nat.succ_pos n) dJ1_deleteEntry_89 q663 (o := none) ((tup_ni (Ne.symm nr0)).trans hp) ?_
        refine V_ifnonnullN dJ1_deleteEntry_92 ?_
        refine V_aload_n dJ1_deleteEntry_95 rfl ?_
        refine V_aload_n dJ1_deleteEntry_96 rfl ?_
        refine VT_putRoot P85_3 dJ1_deleteEntry_97 q190 (o := some r) (fun _ e => by cases e; exact b2) (fun hh97_4 P97_4 => ?_)
        refine V_goto 133 dJ1_deleteEntry_100 (by decide) ?_
        refine V_aload_n dJ1_deleteEntry_133 rfl ?_
        refine V_aload_n dJ1_deleteEntry_134 rfl ?_
        refine V_aload_n dJ1_deleteEntry_135 rfl ?_
        refine V_null dJ1_deleteEntry_136 ?_
        refine V_dup_x1 dJ1_deleteEntry_137 rfl rfl ?_
        refine VT_put 2 (by decide) P97_4 (Nat.succ_pos n) dJ1_deleteEntry_138 q663 (o := none) (fun _ e => by cases e) (fun hh138_5 P138_5 => ?_)
        refine V_dup_x1 dJ1_deleteEntry_141 rfl rfl ?_
        refine VT_put 1 (by decide) P138_5 (Nat.succ_pos n) dJ1_deleteEntry_142 q661 (o := none) (fun _ e => by cases e) (fun hh142_6 P142_6 => ?_)
        refine VT_put 0 (by decide) P142_6 (Nat.succ_pos n) dJ1_deleteEntry_145 q660 (o := none) (fun _ e => by cases e) (fun hh145_7 P145_7 => ?_)
        refine V_aload_n dJ1_deleteEntry_148 rfl ?_
        refine VT_getC P145_7 (Nat.succ_pos n) dJ1_deleteEntry_149 q665 (o := some c) ((tup_nk (by decide)).trans ((tup_nk (by decide)).trans ((tup_nk (by decide)).trans ((tup_nk (by decide)).trans ((tup_nk (by decide)).trans hc))))) ?_
        refine V_topE 1 rfl ?_
        refine V_iconst dJ1_deleteEntry_152 ?_
        refine V_icmp_ne 245 dJ1_deleteEntry_153 (by decide) (by first | omega | decide) (by first | omega | decide) (fun c_153 => absurd c_153 (by decide)) (fun c_153 => ?_)
        refine V_aload_n dJ1_deleteEntry_156 rfl ?_
        refine V_aload_n dJ1_deleteEntry_157 rfl ?_
        refine V_invVc (M' := mJ1_fixAfterDeletion) (As := [.ref (ad r)]) (rest := []) okJ1_fixAfterDeletion dJ1_deleteEntry_158 q1042 rfl rfl (clsE.o P145_7.ob) rfl rfl (Nat.le_of_ble_eq_true rfl) (d' := 1) (b1 := 0) (by first | decide | omega) (by first | decide | omega) (fin _ P145_7 _)
        skip
    · obtain ⟨z1, z2, z3, z4⟩ := h0.2.2 q hp
      have nq0 : q ≠ 0 := by omega
      have nqr : q ≠ r := by
        rintro rfl
        have := (S2 q z2)
        omega
      have e3 : T 3 0 ≠ some 0 := fun e => by have := (S1 0 e).2.1; rw [hp] at this; cases this
      have sub : ∀ hh', TH h a (n + 1) ad K W vs cmp nk (sz - 1) (mc + 1) hh' (tup (tup (tup (tup (tup T 2 r (some q)) 0 q (some r)) 2 0 none) 1 0 none) 0 0 none) → _ := fun hh' P' => del_sub S hr P' (fun i hi => by have : i ≠ 0 := (by omega); simp [tup, this, hp, eq_comm]) (fun i hi => by have : i ≠ 0 := (by omega); simp [tup, this]) (fun i hi => by have : i ≠ 0 := (by omega); simp [tup, this, hp]) (by simp [tup, hp])
      have RB2 : RBk (shT (tup (tup (tup (tup (tup T 2 r (some q)) 0 q (some r)) 2 0 none) 1 0 none) 0 0 none)) := fun r' e => by
        simp [shT, tup] at e
        obtain ⟨q', hq', rfl⟩ := e
        have : q' ≠ 0 := by rintro rfl; exact e3 hq'
        show T 4 (q' - 1 + 1) ≠ none
        rw [show q' - 1 + 1 = q' by omega]
        exact RB q' hq'
      rcases hc : T 4 0 with _ | c
      · refine V_aload_n dJ1_deleteEntry_0 rfl ?_
        refine V_dup dJ1_deleteEntry_1 rfl ?_
        refine V_getf okJ1 5 dJ1_deleteEntry_2 q192 (by decide) P.ob rfl ?_
        refine V_iconst dJ1_deleteEntry_5 ?_
        refine V_iadd dJ1_deleteEntry_6 ?_
        refine VT_putMc P dJ1_deleteEntry_7 q192   (fun hh7_1 P7_1 => ?_)
        refine V_aload_n dJ1_deleteEntry_10 rfl ?_
        refine V_dup dJ1_deleteEntry_11 rfl ?_
        refine V_getf okJ1 4 dJ1_deleteEntry_12 q191 (by decide) P7_1.ob rfl ?_
        refine V_iconst dJ1_deleteEntry_15 ?_
        refine V_isub dJ1_deleteEntry_16 ?_
        refine VT_putSz P7_1 dJ1_deleteEntry_17 q191   (fun hh17_2 P17_2 => ?_)
        refine V_aload_n dJ1_deleteEntry_20 rfl ?_
        refine VT_get 0 (by decide) P17_2 (Nat.succ_pos n) dJ1_deleteEntry_21 q660 (o := none) h0.1 ?_
        refine V_ifnullN 57 dJ1_deleteEntry_24 (by decide) ?_
        refine V_aload_n dJ1_deleteEntry_57 rfl ?_
        refine VT_get 0 (by decide) P17_2 (Nat.succ_pos n) dJ1_deleteEntry_58 q660 (o := none) h0.1 ?_
        refine V_ifnullN 71 dJ1_deleteEntry_61 (by decide) ?_
        refine V_aload_n dJ1_deleteEntry_71 rfl ?_
        refine VT_get 1 (by decide) P17_2 (Nat.succ_pos n) dJ1_deleteEntry_72 q661 (o := some r) hr ?_
        refine V_astore_n dJ1_deleteEntry_75 (by decide) ?_
        refine V_aload_n dJ1_deleteEntry_76 rfl ?_
        refine V_ifnull dJ1_deleteEntry_77 ?_
        refine V_aload_n dJ1_deleteEntry_80 rfl ?_
        refine V_aload_n dJ1_deleteEntry_81 rfl ?_
        refine VT_get 2 (by decide) P17_2 (Nat.succ_pos n) dJ1_deleteEntry_82 q663 (o := some q) hp ?_
        refine VT_put 2 (by decide) P17_2 b2 dJ1_deleteEntry_85 q663 (o := some q) (fun _ e => by cases e; exact z2) (fun hh85_3 P85_3 => ?_)
        refine V_aload_n dJ1_deleteEntry_88 rfl ?_
        refine VT_get 2 (by decide) P85_3 (Nat.succ_pos n) dJ1_deleteEntry_89 q663 (o := some q) ((tup_ni (Ne.symm nr0)).trans hp) ?_
        refine V_ifnonnull 103 dJ1_deleteEntry_92 (by decide) ?_
        refine V_aload_n dJ1_deleteEntry_103 rfl ?_
        refine V_aload_n dJ1_deleteEntry_104 rfl ?_
        refine VT_get 2 (by decide) P85_3 (Nat.succ_pos n) dJ1_deleteEntry_105 q663 (o := some q) ((tup_ni (Ne.symm nr0)).trans hp) ?_
        refine VT_get 0 (by decide) P85_3 z2 dJ1_deleteEntry_108 q660 (o := some 0) ((tup_nk (by decide)).trans z3) ?_
        refine V_acmp_ne (rx := (some (ad 0))) (ry := (some (ad 0))) 125 dJ1_deleteEntry_111 (by decide) (fun c_111 => absurd rfl c_111) (fun _ => ?_)
        refine V_aload_n dJ1_deleteEntry_114 rfl ?_
        refine VT_get 2 (by decide) P85_3 (Nat.succ_pos n) dJ1_deleteEntry_115 q663 (o := some q) ((tup_ni (Ne.symm nr0)).trans hp) ?_
        refine V_aload_n dJ1_deleteEntry_118 rfl ?_
        refine VT_put 0 (by decide) P85_3 z2 dJ1_deleteEntry_119 q660 (o := some r) (fun _ e => by cases e; exact b2) (fun hh119_4 P119_4 => ?_)
        refine V_goto 133 dJ1_deleteEntry_122 (by decide) ?_
        refine V_aload_n dJ1_deleteEntry_133 rfl ?_
        refine V_aload_n dJ1_deleteEntry_134 rfl ?_
        refine V_aload_n dJ1_deleteEntry_135 rfl ?_
        refine V_null dJ1_deleteEntry_136 ?_
        refine V_dup_x1 dJ1_deleteEntry_137 rfl rfl ?_
        refine VT_put 2 (by decide) P119_4 (Nat.succ_pos n) dJ1_deleteEntry_138 q663 (o := none) (fun _ e => by cases e) (fun hh138_5 P138_5 => ?_)
        refine V_dup_x1 dJ1_deleteEntry_141 rfl rfl ?_
        refine VT_put 1 (by decide) P138_5 (Nat.succ_pos n) dJ1_deleteEntry_142 q661 (o := none) (fun _ e => by cases e) (fun hh142_6 P142_6 => ?_)
        refine VT_put 0 (by decide) P142_6 (Nat.succ_pos n) dJ1_deleteEntry_145 q660 (o := none) (fun _ e => by cases e) (fun hh145_7 P145_7 => ?_)
        refine V_aload_n dJ1_deleteEntry_148 rfl ?_
        refine VT_getC P145_7 (Nat.succ_pos n) dJ1_deleteEntry_149 q665 (o := none) ((tup_nk (by decide)).trans ((tup_nk (by decide)).trans ((tup_nk (by decide)).trans ((tup_nk (by decide)).trans ((tup_nk (by decide)).trans hc))))) ?_
        refine V_topE 0 rfl ?_
        refine V_iconst dJ1_deleteEntry_152 ?_
        refine V_icmp_ne 245 dJ1_deleteEntry_153 (by decide) (by first | omega | decide) (by first | omega | decide) (fun c_153 => ?_) (fun c_153 => absurd c_153 (by decide))
        exact V_vret dJ1_deleteEntry_245 rfl (by exact K' _ _ _ _ (sub _ P145_7).1 (sub _ P145_7).2 RB2)
      · have fin : ∀ hh', TH h a (n + 1) ad K W vs cmp nk (sz - 1) (mc + 1) hh' (tup (tup (tup (tup (tup T 2 r (some q)) 0 q (some r)) 2 0 none) 1 0 none) 0 0 none) → ∀ l2, V E mJ1_fixAfterDeletion 1 0 0 [some (.ref a), some (.ref (ad r)), none] [] (ovl h a hh') (fun v h' => V E mJ1_deleteEntry 2 0 161 [some (.ref a), some (.ref (ad 0)), l2] [] h' Q X) X := by
          intro hh' P' l2
          have := c_J1_fixAfterDeletion (E := E) (X := X) (zz := False) (Q := fun v h' => V E mJ1_deleteEntry 2 0 161 [some (.ref a), some (.ref (ad 0)), l2] [] h' Q X) (sub _ P').1 (sub _ P').2 hrn (by show lo (r - 1 + 1) - 1 = 0; rw [show r - 1 + 1 = r by omega]; omega) (Or.inr RB2) (fun z => z.elim) (fun hh'' T' lo' hi' P'' S'' R'' _ => V_goto 245 dJ1_deleteEntry_161 (by decide) (V_vret dJ1_deleteEntry_245 rfl (K' hh'' T' lo' hi' P'' S'' R'')))
          rw [hrr] at this
          exact this
        refine V_aload_n dJ1_deleteEntry_0 rfl ?_
        refine V_dup dJ1_deleteEntry_1 rfl ?_
        refine V_getf okJ1 5 dJ1_deleteEntry_2 q192 (by decide) P.ob rfl ?_
        refine V_iconst dJ1_deleteEntry_5 ?_
        refine V_iadd dJ1_deleteEntry_6 ?_
        refine VT_putMc P dJ1_deleteEntry_7 q192   (fun hh7_1 P7_1 => ?_)
        refine V_aload_n dJ1_deleteEntry_10 rfl ?_
        refine V_dup dJ1_deleteEntry_11 rfl ?_
        refine V_getf okJ1 4 dJ1_deleteEntry_12 q191 (by decide) P7_1.ob rfl ?_
        refine V_iconst dJ1_deleteEntry_15 ?_
        refine V_isub dJ1_deleteEntry_16 ?_
        refine VT_putSz P7_1 dJ1_deleteEntry_17 q191   (fun hh17_2 P17_2 => ?_)
        refine V_aload_n dJ1_deleteEntry_20 rfl ?_
        refine VT_get 0 (by decide) P17_2 (Nat.succ_pos n) dJ1_deleteEntry_21 q660 (o := none) h0.1 ?_
        refine V_ifnullN 57 dJ1_deleteEntry_24 (by decide) ?_
        refine V_aload_n dJ1_deleteEntry_57 rfl ?_
        refine VT_get 0 (by decide) P17_2 (Nat.succ_pos n) dJ1_deleteEntry_58 q660 (o := none) h0.1 ?_
        refine V_ifnullN 71 dJ1_deleteEntry_61 (by decide) ?_
        refine V_aload_n dJ1_deleteEntry_71 rfl ?_
        refine VT_get 1 (by decide) P17_2 (Nat.succ_pos n) dJ1_deleteEntry_72 q661 (o := some r) hr ?_
        refine V_astore_n dJ1_deleteEntry_75 (by decide) ?_
        refine V_aload_n dJ1_deleteEntry_76 rfl ?_
        refine V_ifnull dJ1_deleteEntry_77 ?_
        refine V_aload_n dJ1_deleteEntry_80 rfl ?_
        refine V_aload_n dJ1_deleteEntry_81 rfl ?_
        refine VT_get 2 (by decide) P17_2 (Nat.succ_pos n) dJ1_deleteEntry_82 q663 (o := some q) hp ?_
        refine VT_put 2 (by decide) P17_2 b2 dJ1_deleteEntry_85 q663 (o := some q) (fun _ e => by cases e; exact z2) (fun hh85_3 P85_3 => ?_)
        refine V_aload_n dJ1_deleteEntry_88 rfl ?_
        refine VT_get 2 (by decide) P85_3 (Nat.succ_pos n) dJ1_deleteEntry_89 q663 (o := some q) ((tup_ni (Ne.symm nr0)).trans hp) ?_
        refine V_ifnonnull 103 dJ1_deleteEntry_92 (by decide) ?_
        refine V_aload_n dJ1_deleteEntry_103 rfl ?_
        refine V_aload_n dJ1_deleteEntry_104 rfl ?_
        refine VT_get 2 (by decide) P85_3 (Nat.succ_pos n) dJ1_deleteEntry_105 q663 (o := some q) ((tup_ni (Ne.symm nr0)).trans hp) ?_
        refine VT_get 0 (by decide) P85_3 z2 dJ1_deleteEntry_108 q660 (o := some 0) ((tup_nk (by decide)).trans z3) ?_
        refine V_acmp_ne (rx := (some (ad 0))) (ry := (some (ad 0))) 125 dJ1_deleteEntry_111 (by decide) (fun c_111 => absurd rfl c_111) (fun _ => ?_)
        refine V_aload_n dJ1_deleteEntry_114 rfl ?_
        refine VT_get 2 (by decide) P85_3 (Nat.succ_pos n) dJ1_deleteEntry_115 q663 (o := some q) ((tup_ni (Ne.symm nr0)).trans hp) ?_
        refine V_aload_n dJ1_deleteEntry_118 rfl ?_
        refine VT_put 0 (by decide) P85_3 z2 dJ1_deleteEntry_119 q660 (o := some r) (fun _ e => by cases e; exact b2) (fun hh119_4 P119_4 => ?_)
        refine V_goto 133 dJ1_deleteEntry_122 (by decide) ?_
        refine V_aload_n dJ1_deleteEntry_133 rfl ?_
        refine V_aload_n dJ1_deleteEntry_134 rfl ?_
        refine V_aload_n dJ1_deleteEntry_135 rfl ?_
        refine V_null dJ1_deleteEntry_136 ?_
        refine V_dup_x1 dJ1_deleteEntry_137 rfl rfl ?_
        refine VT_put 2 (by decide) P119_4 (Nat.succ_pos n) dJ1_deleteEntry_138 q663 (o := none) (fun _ e => by cases e) (fun hh138_5 P138_5 => ?_)
        refine V_dup_x1 dJ1_deleteEntry_141 rfl rfl ?_
        refine VT_put 1 (by decide) P138_5 (Nat.succ_pos n) dJ1_deleteEntry_142 q661 (o := none) (fun _ e => by cases e) (fun hh142_6 P142_6 => ?_)
        refine VT_put 0 (by decide) P142_6 (Nat.succ_pos n) dJ1_deleteEntry_145 q660 (o := none) (fun _ e => by cases e) (fun hh145_7 P145_7 => ?_)
        refine V_aload_n dJ1_deleteEntry_148 rfl ?_
        refine VT_getC P145_7 (Nat.succ_pos n) dJ1_deleteEntry_149 q665 (o := some c) ((tup_nk (by decide)).trans ((tup_nk (by decide)).trans ((tup_nk (by decide)).trans ((tup_nk (by decide)).trans ((tup_nk (by decide)).trans hc))))) ?_
        refine V_topE 1 rfl ?_
        refine V_iconst dJ1_deleteEntry_152 ?_
        refine V_icmp_ne 245 dJ1_deleteEntry_153 (by decide) (by first | omega | decide) (by first | omega | decide) (fun c_153 => absurd c_153 (by decide)) (fun c_153 => ?_)
        refine V_aload_n dJ1_deleteEntry_156 rfl ?_
        refine V_aload_n dJ1_deleteEntry_157 rfl ?_
        refine V_invVc (M' := mJ1_fixAfterDeletion) (As := [.ref (ad r)]) (rest := []) okJ1_fixAfterDeletion dJ1_deleteEntry_158 q1042 rfl rfl (clsE.o P145_7.ob) rfl rfl (Nat.le_of_ble_eq_true rfl) (d' := 1) (b1 := 0) (by first | decide | omega) (by first | decide | omega) (fin _ P145_7 _)
        skip
end TM15
