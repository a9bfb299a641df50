/-! TREES: rotations -/
section TM5
variable {E : Ev} {M : Mt} {d b pc idx a n i r : Nat} {ls : List (Option Value)} {rest st : List Value} {h hh : AH} {Q : Value → AH → Prop} {X : Nat → AH → Prop} {ad K W : Nat → Nat} {vs cmp nk : Value} {sz mc : Int} {T : TT} {o : Option Nat} {lo hi : Nat → Nat}
theorem TH.opt (P : TH h a n ad K W vs cmp nk sz mc hh T) (h0 : i < n) (ho : ∀ j, o = some j → j < n) (e : Option.map ad o = some (ad i)) : o = some i := by
  cases o with
  | none => cases e
  | some j => rw [P.2.2.2.1 j i (ho j rfl) h0 (Option.some.inj e)]
theorem c_J1_rotateLeft0 (K' : Q .null h) : V E mJ1_rotateLeft 0 0 0 [some (.ref a), some .null, none] [] h Q X := by
  refine V_aload_nN dJ1_rotateLeft_0 rfl ?_
  refine V_ifnullN 95 dJ1_rotateLeft_1 (by decide) ?_
  exact V_vret dJ1_rotateLeft_95 rfl (by exact K')
theorem c_J1_rotateRight0 (K' : Q .null h) : V E mJ1_rotateRight 0 0 0 [some (.ref a), some .null, none] [] h Q X := by
  refine V_aload_nN dJ1_rotateRight_0 rfl ?_
  refine V_ifnullN 95 dJ1_rotateRight_1 (by decide) ?_
  exact V_vret dJ1_rotateRight_95 rfl (by exact K')
theorem c_J1_rotateLeft (P : TH h a n ad K W vs cmp nk sz mc hh T) (S : Tsh n T lo hi) (h0 : i < n) (hr : T 1 i = some r) (K' : ∀ hh', TH h a n ad K W vs cmp nk sz mc hh' (rotL T i r) → Q .null (ovl h a hh')) : V E mJ1_rotateLeft 0 0 0 [some (.ref a), some (.ref (ad i)), none] [] (ovl h a hh) Q X := by
  obtain ⟨S0, S1, S2⟩ := S
  obtain ⟨a1, a2, a3, a4, a5, a6, a7, a8, a9⟩ := S2 i h0
  obtain ⟨b1, b2, b3, b4, b5⟩ := a7 r hr
  obtain ⟨c1, c2, c3, c4, c5, c6, c7, c8, c9⟩ := S2 r b2
  have nir : i ≠ r := by omega
  rcases hq : T 0 r with _ | q
  · rcases hp : T 2 i with _ | p
    · refine V_aload_n dJ1_rotateLeft_0 rfl ?_
      refine V_ifnull dJ1_rotateLeft_1 ?_
      refine V_aload_n dJ1_rotateLeft_4 rfl ?_
      refine VT_get 1 (by decide) P h0 dJ1_rotateLeft_5 q661 (o := some r) hr ?_
      refine V_astore_n dJ1_rotateLeft_8 (by decide) ?_
      refine V_aload_n dJ1_rotateLeft_9 rfl ?_
      refine V_aload_n dJ1_rotateLeft_10 rfl ?_
      refine VT_get 0 (by decide) P b2 dJ1_rotateLeft_11 q660 (o := none) hq ?_
      refine VT_put 1 (by decide) P h0 dJ1_rotateLeft_14 q661 (o := none) (fun _ e => by cases e) (fun hh14_1 P14_1 => ?_)
      refine V_aload_n dJ1_rotateLeft_17 rfl ?_
      refine VT_get 0 (by decide) P14_1 b2 dJ1_rotateLeft_18 q660 (o := none) ((tup_nk (by decide)).trans hq) ?_
      refine V_ifnullN 32 dJ1_rotateLeft_21 (by decide) ?_
      refine V_aload_n dJ1_rotateLeft_32 rfl ?_
      refine V_aload_n dJ1_rotateLeft_33 rfl ?_
      refine VT_get 2 (by decide) P14_1 h0 dJ1_rotateLeft_34 q663 (o := none) ((tup_nk (by decide)).trans hp) ?_
      refine VT_put 2 (by decide) P14_1 b2 dJ1_rotateLeft_37 q663 (o := none) (fun _ e => by cases e) (fun hh37_2 P37_2 => ?_)
      refine V_aload_n dJ1_rotateLeft_40 rfl ?_
      refine VT_get 2 (by decide) P37_2 h0 dJ1_rotateLeft_41 q663 (o := none) ((tup_ni nir).trans ((tup_nk (by decide)).trans hp)) ?_
      refine V_ifnonnullN dJ1_rotateLeft_44 ?_
      refine V_aload_n dJ1_rotateLeft_47 rfl ?_
      refine V_aload_n dJ1_rotateLeft_48 rfl ?_
      refine VT_putRoot P37_2 dJ1_rotateLeft_49 q190 (o := some r) (fun _ e => by cases e; exact b2) (fun hh49_3 P49_3 => ?_)
      refine V_goto 85 dJ1_rotateLeft_52 (by decide) ?_
      refine V_aload_n dJ1_rotateLeft_85 rfl ?_
      refine V_aload_n dJ1_rotateLeft_86 rfl ?_
      refine VT_put 0 (by decide) P49_3 b2 dJ1_rotateLeft_87 q660 (o := some i) (fun _ e => by cases e; exact h0) (fun hh87_4 P87_4 => ?_)
      refine V_aload_n dJ1_rotateLeft_90 rfl ?_
      refine V_aload_n dJ1_rotateLeft_91 rfl ?_
      refine VT_put 2 (by decide) P87_4 h0 dJ1_rotateLeft_92 q663 (o := some r) (fun _ e => by cases e; exact b2) (fun hh92_5 P92_5 => ?_)
      exact V_vret dJ1_rotateLeft_95 rfl (by exact K' _ (by have e : (tup (tup (tup (tup (tup T 1 i none) 2 r none) 3 0 (some r)) 0 r (some i)) 2 i (some r)) = rotL T i r := (by funext k j; match k with | 0 => (simp only [tup, rotL]; grind) | 1 => (simp only [tup, rotL]; grind) | 2 => (simp only [tup, rotL]; grind) | 3 => (simp only [tup, rotL]; grind) | k + 4 => simp [tup, rotL]); rw [← e]; exact P92_5))
    · obtain ⟨z1, z2⟩ := a9 p hp
      have nip : i ≠ p := by rintro rfl; rcases z2 with z | z <;> grind
      have nrp : r ≠ p := by rintro rfl; rcases z2 with z | z <;> grind
      by_cases hpl : T 0 p = some i
      · refine V_aload_n dJ1_rotateLeft_0 rfl ?_
        refine V_ifnull dJ1_rotateLeft_1 ?_
        refine V_aload_n dJ1_rotateLeft_4 rfl ?_
        refine VT_get 1 (by decide) P h0 dJ1_rotateLeft_5 q661 (o := some r) hr ?_
        refine V_astore_n dJ1_rotateLeft_8 (by decide) ?_
        refine V_aload_n dJ1_rotateLeft_9 rfl ?_
        refine V_aload_n dJ1_rotateLeft_10 rfl ?_
        refine VT_get 0 (by decide) P b2 dJ1_rotateLeft_11 q660 (o := none) hq ?_
        refine VT_put 1 (by decide) P h0 dJ1_rotateLeft_14 q661 (o := none) (fun _ e => by cases e) (fun hh14_1 P14_1 => ?_)
        refine V_aload_n dJ1_rotateLeft_17 rfl ?_
        refine VT_get 0 (by decide) P14_1 b2 dJ1_rotateLeft_18 q660 (o := none) ((tup_nk (by decide)).trans hq) ?_
        refine V_ifnullN 32 dJ1_rotateLeft_21 (by decide) ?_
        refine V_aload_n dJ1_rotateLeft_32 rfl ?_
        refine V_aload_n dJ1_rotateLeft_33 rfl ?_
        refine VT_get 2 (by decide) P14_1 h0 dJ1_rotateLeft_34 q663 (o := some p) ((tup_nk (by decide)).trans hp) ?_
        refine VT_put 2 (by decide) P14_1 b2 dJ1_rotateLeft_37 q663 (o := some p) (fun _ e => by cases e; exact z1) (fun hh37_2 P37_2 => ?_)
        refine V_aload_n dJ1_rotateLeft_40 rfl ?_
        refine VT_get 2 (by decide) P37_2 h0 dJ1_rotateLeft_41 q663 (o := some p) ((tup_ni nir).trans ((tup_nk (by decide)).trans hp)) ?_
        refine V_ifnonnull 55 dJ1_rotateLeft_44 (by decide) ?_
        refine V_aload_n dJ1_rotateLeft_55 rfl ?_
        refine VT_get 2 (by decide) P37_2 h0 dJ1_rotateLeft_56 q663 (o := some p) ((tup_ni nir).trans ((tup_nk (by decide)).trans hp)) ?_
        refine VT_get 0 (by decide) P37_2 z1 dJ1_rotateLeft_59 q660 (o := some i) ((tup_nk (by decide)).trans ((tup_nk (by decide)).trans hpl)) ?_
        refine V_aload_n dJ1_rotateLeft_62 rfl ?_
        refine V_acmp_ne (rx := (some (ad i))) (ry := (some (ad i))) 77 dJ1_rotateLeft_63 (by decide) (fun c_63 => absurd rfl c_63) (fun _ => ?_)
        refine V_aload_n dJ1_rotateLeft_66 rfl ?_
        refine VT_get 2 (by decide) P37_2 h0 dJ1_rotateLeft_67 q663 (o := some p) ((tup_ni nir).trans ((tup_nk (by decide)).trans hp)) ?_
        refine V_aload_n dJ1_rotateLeft_70 rfl ?_
        refine VT_put 0 (by decide) P37_2 z1 dJ1_rotateLeft_71 q660 (o := some r) (fun _ e => by cases e; exact b2) (fun hh71_3 P71_3 => ?_)
        refine V_goto 85 dJ1_rotateLeft_74 (by decide) ?_
        refine V_aload_n dJ1_rotateLeft_85 rfl ?_
        refine V_aload_n dJ1_rotateLeft_86 rfl ?_
        refine VT_put 0 (by decide) P71_3 b2 dJ1_rotateLeft_87 q660 (o := some i) (fun _ e => by cases e; exact h0) (fun hh87_4 P87_4 => ?_)
        refine V_aload_n dJ1_rotateLeft_90 rfl ?_
        refine V_aload_n dJ1_rotateLeft_91 rfl ?_
        refine VT_put 2 (by decide) P87_4 h0 dJ1_rotateLeft_92 q663 (o := some r) (fun _ e => by cases e; exact b2) (fun hh92_5 P92_5 => ?_)
        exact V_vret dJ1_rotateLeft_95 rfl (by exact K' _ (by have e : (tup (tup (tup (tup (tup T 1 i none) 2 r (some p)) 0 p (some r)) 0 r (some i)) 2 i (some r)) = rotL T i r := (by funext k j; match k with | 0 => (simp only [tup, rotL]; grind) | 1 => (simp only [tup, rotL]; grind) | 2 => (simp only [tup, rotL]; grind) | 3 => (simp only [tup, rotL]; grind) | k + 4 => simp [tup, rotL]); rw [← e]; exact P92_5))
      · refine V_aload_n dJ1_rotateLeft_0 rfl ?_
        refine V_ifnull dJ1_rotateLeft_1 ?_
        refine V_aload_n dJ1_rotateLeft_4 rfl ?_
        refine VT_get 1 (by decide) P h0 dJ1_rotateLeft_5 q661 (o := some r) hr ?_
        refine V_astore_n dJ1_rotateLeft_8 (by decide) ?_
        refine V_aload_n dJ1_rotateLeft_9 rfl ?_
        refine V_aload_n dJ1_rotateLeft_10 rfl ?_
        refine VT_get 0 (by decide) P b2 dJ1_rotateLeft_11 q660 (o := none) hq ?_
        refine VT_put 1 (by decide) P h0 dJ1_rotateLeft_14 q661 (o := none) (fun _ e => by cases e) (fun hh14_1 P14_1 => ?_)
        refine V_aload_n dJ1_rotateLeft_17 rfl ?_
        refine VT_get 0 (by decide) P14_1 b2 dJ1_rotateLeft_18 q660 (o := none) ((tup_nk (by decide)).trans hq) ?_
        refine V_ifnullN 32 dJ1_rotateLeft_21 (by decide) ?_
        refine V_aload_n dJ1_rotateLeft_32 rfl ?_
        refine V_aload_n dJ1_rotateLeft_33 rfl ?_
        refine VT_get 2 (by decide) P14_1 h0 dJ1_rotateLeft_34 q663 (o := some p) ((tup_nk (by decide)).trans hp) ?_
        refine VT_put 2 (by decide) P14_1 b2 dJ1_rotateLeft_37 q663 (o := some p) (fun _ e => by cases e; exact z1) (fun hh37_2 P37_2 => ?_)
        refine V_aload_n dJ1_rotateLeft_40 rfl ?_
        refine VT_get 2 (by decide) P37_2 h0 dJ1_rotateLeft_41 q663 (o := some p) ((tup_ni nir).trans ((tup_nk (by decide)).trans hp)) ?_
        refine V_ifnonnull 55 dJ1_rotateLeft_44 (by decide) ?_
        refine V_aload_n dJ1_rotateLeft_55 rfl ?_
        refine VT_get 2 (by decide) P37_2 h0 dJ1_rotateLeft_56 q663 (o := some p) ((tup_ni nir).trans ((tup_nk (by decide)).trans hp)) ?_
        refine VT_get 0 (by decide) P37_2 z1 dJ1_rotateLeft_59 q660 (o := T 0 p) ((tup_nk (by decide)).trans ((tup_nk (by decide)).trans rfl)) ?_
        refine V_aload_n dJ1_rotateLeft_62 rfl ?_
        refine V_acmp_ne (rx := (Option.map ad (T 0 p))) (ry := (some (ad i))) 77 dJ1_rotateLeft_63 (by decide) (fun c_63 => ?_) (fun c_63 => by exfalso; exact hpl (P.opt h0 (fun j e => P.2.2.2.2.1 0 p j (by decide) z1 e) c_63))
        refine V_aload_n dJ1_rotateLeft_77 rfl ?_
        refine VT_get 2 (by decide) P37_2 h0 dJ1_rotateLeft_78 q663 (o := some p) ((tup_ni nir).trans ((tup_nk (by decide)).trans hp)) ?_
        refine V_aload_n dJ1_rotateLeft_81 rfl ?_
        refine VT_put 1 (by decide) P37_2 z1 dJ1_rotateLeft_82 q661 (o := some r) (fun _ e => by cases e; exact b2) (fun hh82_3 P82_3 => ?_)
        refine V_aload_n dJ1_rotateLeft_85 rfl ?_
        refine V_aload_n dJ1_rotateLeft_86 rfl ?_
        refine VT_put 0 (by decide) P82_3 b2 dJ1_rotateLeft_87 q660 (o := some i) (fun _ e => by cases e; exact h0) (fun hh87_4 P87_4 => ?_)
        refine V_aload_n dJ1_rotateLeft_90 rfl ?_
        refine V_aload_n dJ1_rotateLeft_91 rfl ?_
        refine VT_put 2 (by decide) P87_4 h0 dJ1_rotateLeft_92 q663 (o := some r) (fun _ e => by cases e; exact b2) (fun hh92_5 P92_5 => ?_)
        exact V_vret dJ1_rotateLeft_95 rfl (by exact K' _ (by have e : (tup (tup (tup (tup (tup T 1 i none) 2 r (some p)) 1 p (some r)) 0 r (some i)) 2 i (some r)) = rotL T i r := (by funext k j; match k with | 0 => (simp only [tup, rotL]; grind) | 1 => (simp only [tup, rotL]; grind) | 2 => (simp only [tup, rotL]; grind) | 3 => (simp only [tup, rotL]; grind) | k + 4 => simp [tup, rotL]); rw [← e]; exact P92_5))
  · obtain ⟨y1, y2, y3, y4⟩ := c5 q hq
    have hqn : q < n := by omega
    have := (S2 q hqn).1
    have niq : i ≠ q := by omega
    have nrq : r ≠ q := by omega
    rcases hp : T 2 i with _ | p
    · refine V_aload_n dJ1_rotateLeft_0 rfl ?_
      refine V_ifnull dJ1_rotateLeft_1 ?_
      refine V_aload_n dJ1_rotateLeft_4 rfl ?_
      refine VT_get 1 (by decide) P h0 dJ1_rotateLeft_5 q661 (o := some r) hr ?_
      refine V_astore_n dJ1_rotateLeft_8 (by decide) ?_
      refine V_aload_n dJ1_rotateLeft_9 rfl ?_
      refine V_aload_n dJ1_rotateLeft_10 rfl ?_
      refine VT_get 0 (by decide) P b2 dJ1_rotateLeft_11 q660 (o := some q) hq ?_
      refine VT_put 1 (by decide) P h0 dJ1_rotateLeft_14 q661 (o := some q) (fun _ e => by cases e; exact hqn) (fun hh14_1 P14_1 => ?_)
      refine V_aload_n dJ1_rotateLeft_17 rfl ?_
      refine VT_get 0 (by decide) P14_1 b2 dJ1_rotateLeft_18 q660 (o := some q) ((tup_nk (by decide)).trans hq) ?_
      refine V_ifnull dJ1_rotateLeft_21 ?_
      refine V_aload_n dJ1_rotateLeft_24 rfl ?_
      refine VT_get 0 (by decide) P14_1 b2 dJ1_rotateLeft_25 q660 (o := some q) ((tup_nk (by decide)).trans hq) ?_
      refine V_aload_n dJ1_rotateLeft_28 rfl ?_
      refine VT_put 2 (by decide) P14_1 hqn dJ1_rotateLeft_29 q663 (o := some i) (fun _ e => by cases e; exact h0) (fun hh29_2 P29_2 => ?_)
      refine V_aload_n dJ1_rotateLeft_32 rfl ?_
      refine V_aload_n dJ1_rotateLeft_33 rfl ?_
      refine VT_get 2 (by decide) P29_2 h0 dJ1_rotateLeft_34 q663 (o := none) ((tup_ni niq).trans ((tup_nk (by decide)).trans hp)) ?_
      refine VT_put 2 (by decide) P29_2 b2 dJ1_rotateLeft_37 q663 (o := none) (fun _ e => by cases e) (fun hh37_3 P37_3 => ?_)
      refine V_aload_n dJ1_rotateLeft_40 rfl ?_
      refine VT_get 2 (by decide) P37_3 h0 dJ1_rotateLeft_41 q663 (o := none) ((tup_ni nir).trans ((tup_ni niq).trans ((tup_nk (by decide)).trans hp))) ?_
      refine V_ifnonnullN dJ1_rotateLeft_44 ?_
      refine V_aload_n dJ1_rotateLeft_47 rfl ?_
      refine V_aload_n dJ1_rotateLeft_48 rfl ?_
      refine VT_putRoot P37_3 dJ1_rotateLeft_49 q190 (o := some r) (fun _ e => by cases e; exact b2) (fun hh49_4 P49_4 => ?_)
      refine V_goto 85 dJ1_rotateLeft_52 (by decide) ?_
      refine V_aload_n dJ1_rotateLeft_85 rfl ?_
      refine V_aload_n dJ1_rotateLeft_86 rfl ?_
      refine VT_put 0 (by decide) P49_4 b2 dJ1_rotateLeft_87 q660 (o := some i) (fun _ e => by cases e; exact h0) (fun hh87_5 P87_5 => ?_)
      refine V_aload_n dJ1_rotateLeft_90 rfl ?_
      refine V_aload_n dJ1_rotateLeft_91 rfl ?_
      refine VT_put 2 (by decide) P87_5 h0 dJ1_rotateLeft_92 q663 (o := some r) (fun _ e => by cases e; exact b2) (fun hh92_6 P92_6 => ?_)
      exact V_vret dJ1_rotateLeft_95 rfl (by exact K' _ (by have e : (tup (tup (tup (tup (tup (tup T 1 i (some q)) 2 q (some i)) 2 r none) 3 0 (some r)) 0 r (some i)) 2 i (some r)) = rotL T i r := (by funext k j; match k with | 0 => (simp only [tup, rotL]; grind) | 1 => (simp only [tup, rotL]; grind) | 2 => (simp only [tup, rotL]; grind) | 3 => (simp only [tup, rotL]; grind) | k + 4 => simp [tup, rotL]); rw [← e]; exact P92_6))
    · obtain ⟨z1, z2⟩ := a9 p hp
      have nip : i ≠ p := by rintro rfl; rcases z2 with z | z <;> grind
      have nrp : r ≠ p := by rintro rfl; rcases z2 with z | z <;> grind
      have nqp : q ≠ p := by
        rintro rfl
        obtain ⟨d1, d2, d3, d4, d5, d6, d7, d8, d9⟩ := S2 q z1
        rcases z2 with z | z
        · have := d5 i z; omega
        · have := d7 i z; omega
      by_cases hpl : T 0 p = some i
      · refine V_aload_n dJ1_rotateLeft_0 rfl ?_
        refine V_ifnull dJ1_rotateLeft_1 ?_
        refine V_aload_n dJ1_rotateLeft_4 rfl ?_
        refine VT_get 1 (by decide) P h0 dJ1_rotateLeft_5 q661 (o := some r) hr ?_
        refine V_astore_n dJ1_rotateLeft_8 (by decide) ?_
        refine V_aload_n dJ1_rotateLeft_9 rfl ?_
        refine V_aload_n dJ1_rotateLeft_10 rfl ?_
        refine VT_get 0 (by decide) P b2 dJ1_rotateLeft_11 q660 (o := some q) hq ?_
        refine VT_put 1 (by decide) P h0 dJ1_rotateLeft_14 q661 (o := some q) (fun _ e => by cases e; exact hqn) (fun hh14_1 P14_1 => ?_)
        refine V_aload_n dJ1_rotateLeft_17 rfl ?_
        refine VT_get 0 (by decide) P14_1 b2 dJ1_rotateLeft_18 q660 (o := some q) ((tup_nk (by decide)).trans hq) ?_
        refine V_ifnull dJ1_rotateLeft_21 ?_
        refine V_aload_n dJ1_rotateLeft_24 rfl ?_
        refine VT_get 0 (by decide) P14_1 b2 dJ1_rotateLeft_25 q660 (o := some q) ((tup_nk (by decide)).trans hq) ?_
        refine V_aload_n dJ1_rotateLeft_28 rfl ?_
        refine VT_put 2 (by decide) P14_1 hqn dJ1_rotateLeft_29 q663 (o := some i) (fun _ e => by cases e; exact h0) (fun hh29_2 P29_2 => ?_)
        refine V_aload_n dJ1_rotateLeft_32 rfl ?_
        refine V_aload_n dJ1_rotateLeft_33 rfl ?_
        refine VT_get 2 (by decide) P29_2 h0 dJ1_rotateLeft_34 q663 (o := some p) ((tup_ni niq).trans ((tup_nk (by decide)).trans hp)) ?_
        refine VT_put 2 (by decide) P29_2 b2 dJ1_rotateLeft_37 q663 (o := some p) (fun _ e => by cases e; exact z1) (fun hh37_3 P37_3 => ?_)
        refine V_aload_n dJ1_rotateLeft_40 rfl ?_
        refine VT_get 2 (by decide) P37_3 h0 dJ1_rotateLeft_41 q663 (o := some p) ((tup_ni nir).trans ((tup_ni niq).trans ((tup_nk (by decide)).trans hp))) ?_
        refine V_ifnonnull 55 dJ1_rotateLeft_44 (by decide) ?_
        refine V_aload_n dJ1_rotateLeft_55 rfl ?_
        refine VT_get 2 (by decide) P37_3 h0 dJ1_rotateLeft_56 q663 (o := some p) ((tup_ni nir).trans ((tup_ni niq).trans ((tup_nk (by decide)).trans hp))) ?_
        refine VT_get 0 (by decide) P37_3 z1 dJ1_rotateLeft_59 q660 (o := some i) ((tup_nk (by decide)).trans ((tup_nk (by decide)).trans ((tup_nk (by decide)).trans hpl))) ?_
        refine V_aload_n dJ1_rotateLeft_62 rfl ?_
        refine V_acmp_ne (rx := (some (ad i))) (ry := (some (ad i))) 77 dJ1_rotateLeft_63 (by decide) (fun c_63 => absurd rfl c_63) (fun _ => ?_)
        refine V_aload_n dJ1_rotateLeft_66 rfl ?_
        refine VT_get 2 (by decide) P37_3 h0 dJ1_rotateLeft_67 q663 (o := some p) ((tup_ni nir).trans ((tup_ni niq).trans ((tup_nk (by decide)).trans hp))) ?_
        refine V_aload_n dJ1_rotateLeft_70 rfl ?_
        refine VT_put 0 (by decide) P37_3 z1 dJ1_rotateLeft_71 q660 (o := some r) (fun _ e => by cases e; exact b2) (fun hh71_4 P71_4 => ?_)
        refine V_goto 85 dJ1_rotateLeft_74 (by decide) ?_
        refine V_aload_n dJ1_rotateLeft_85 rfl ?_
        refine V_aload_n dJ1_rotateLeft_86 rfl ?_
        refine VT_put 0 (by decide) P71_4 b2 dJ1_rotateLeft_87 q660 (o := some i) (fun _ e => by cases e; exact h0) (fun hh87_5 P87_5 => ?_)
        refine V_aload_n dJ1_rotateLeft_90 rfl ?_
        refine V_aload_n dJ1_rotateLeft_91 rfl ?_
        refine VT_put 2 (by decide) P87_5 h0 dJ1_rotateLeft_92 q663 (o := some r) (fun _ e => by cases e; exact b2) (fun hh92_6 P92_6 => ?_)
        exact V_vret dJ1_rotateLeft_95 rfl (by exact K' _ (by have e : (tup (tup (tup (tup (tup (tup T 1 i (some q)) 2 q (some i)) 2 r (some p)) 0 p (some r)) 0 r (some i)) 2 i (some r)) = rotL T i r := (by funext k j; match k with | 0 => (simp only [tup, rotL]; grind) | 1 => (simp only [tup, rotL]; grind) | 2 => (simp only [tup, rotL]; grind) | 3 => (simp only [tup, rotL]; grind) | k + 4 => simp [tup, rotL]); rw [← e]; exact P92_6))
      · refine V_aload_n dJ1_rotateLeft_0 rfl ?_
        refine V_ifnull dJ1_rotateLeft_1 ?_
        refine V_aload_n dJ1_rotateLeft_4 rfl ?_
        refine VT_get 1 (by decide) P h0 dJ1_rotateLeft_5 q661 (o := some r) hr ?_
        refine V_astore_n dJ1_rotateLeft_8 (by decide) ?_
        refine V_aload_n dJ1_rotateLeft_9 rfl ?_
        refine V_aload_n dJ1_rotateLeft_10 rfl ?_
        refine VT_get 0 (by decide) P b2 dJ1_rotateLeft_11 q660 (o := some q) hq ?_
        refine VT_put 1 (by decide) P h0 dJ1_rotateLeft_14 q661 (o := some q) (fun _ e => by cases e; exact hqn) (fun hh14_1 P14_1 => ?_)
        refine V_aload_n dJ1_rotateLeft_17 rfl ?_
        refine VT_get 0 (by decide) P14_1 b2 dJ1_rotateLeft_18 q660 (o := some q) ((tup_nk (by decide)).trans hq) ?_
        refine V_ifnull dJ1_rotateLeft_21 ?_
        refine V_aload_n dJ1_rotateLeft_24 rfl ?_
        refine VT_get 0 (by decide) P14_1 b2 dJ1_rotateLeft_25 q660 (o := some q) ((tup_nk (by decide)).trans hq) ?_
        refine V_aload_n dJ1_rotateLeft_28 rfl ?_
        refine VT_put 2 (by decide) P14_1 hqn dJ1_rotateLeft_29 q663 (o := some i) (fun _ e => by cases e; exact h0) (fun hh29_2 P29_2 => ?_)
        refine V_aload_n dJ1_rotateLeft_32 rfl ?_
        refine V_aload_n dJ1_rotateLeft_33 rfl ?_
        refine VT_get 2 (by decide) P29_2 h0 dJ1_rotateLeft_34 q663 (o := some p) ((tup_ni niq).trans ((tup_nk (by decide)).trans hp)) ?_
        refine VT_put 2 (by decide) P29_2 b2 dJ1_rotateLeft_37 q663 (o := some p) (fun _ e => by cases e; exact z1) (fun hh37_3 P37_3 => ?_)
        refine V_aload_n dJ1_rotateLeft_40 rfl ?_
        refine VT_get 2 (by decide) P37_3 h0 dJ1_rotateLeft_41 q663 (o := some p) ((tup_ni nir).trans ((tup_ni niq).trans ((tup_nk (by decide)).trans hp))) ?_
        refine V_ifnonnull 55 dJ1_rotateLeft_44 (by decide) ?_
        refine V_aload_n dJ1_rotateLeft_55 rfl ?_
        refine VT_get 2 (by decide) P37_3 h0 dJ1_rotateLeft_56 q663 (o := some p) ((tup_ni nir).trans ((tup_ni niq).trans ((tup_nk (by decide)).trans hp))) ?_
        refine VT_get 0 (by decide) P37_3 z1 dJ1_rotateLeft_59 q660 (o := T 0 p) ((tup_nk (by decide)).trans ((tup_nk (by decide)).trans ((tup_nk (by decide)).trans rfl))) ?_
        refine V_aload_n dJ1_rotateLeft_62 rfl ?_
        refine V_acmp_ne (rx := (Option.map ad (T 0 p))) (ry := (some (ad i))) 77 dJ1_rotateLeft_63 (by decide) (fun c_63 => ?_) (fun c_63 => by exfalso; exact hpl (P.opt h0 (fun j e => P.2.2.2.2.1 0 p j (by decide) z1 e) c_63))
        refine V_aload_n dJ1_rotateLeft_77 rfl ?_
        refine VT_get 2 (by decide) P37_3 h0 dJ1_rotateLeft_78 q663 (o := some p) ((tup_ni nir).trans ((tup_ni niq).trans ((tup_nk (by decide)).trans hp))) ?_
        refine V_aload_n dJ1_rotateLeft_81 rfl ?_
        refine VT_put 1 (by decide) P37_3 z1 dJ1_rotateLeft_82 q661 (o := some r) (fun _ e => by cases e; exact b2) (fun hh82_4 P82_4 => ?_)
        refine V_aload_n dJ1_rotateLeft_85 rfl ?_
        refine V_aload_n dJ1_rotateLeft_86 rfl ?_
        refine VT_put 0 (by decide) P82_4 b2 dJ1_rotateLeft_87 q660 (o := some i) (fun _ e => by cases e; exact h0) (fun hh87_5 P87_5 => ?_)
        refine V_aload_n dJ1_rotateLeft_90 rfl ?_
        refine V_aload_n dJ1_rotateLeft_91 rfl ?_
        refine VT_put 2 (by decide) P87_5 h0 dJ1_rotateLeft_92 q663 (o := some r) (fun _ e => by cases e; exact b2) (fun hh92_6 P92_6 => ?_)
        exact V_vret dJ1_rotateLeft_95 rfl (by exact K' _ (by have e : (tup (tup (tup (tup (tup (tup T 1 i (some q)) 2 q (some i)) 2 r (some p)) 1 p (some r)) 0 r (some i)) 2 i (some r)) = rotL T i r := (by funext k j; match k with | 0 => (simp only [tup, rotL]; grind) | 1 => (simp only [tup, rotL]; grind) | 2 => (simp only [tup, rotL]; grind) | 3 => (simp only [tup, rotL]; grind) | k + 4 => simp [tup, rotL]); rw [← e]; exact P92_6))
theorem c_J1_rotateRight (P : TH h a n ad K W vs cmp nk sz mc hh T) (S : Tsh n T lo hi) (h0 : i < n) (hr : T 0 i = some r) (K' : ∀ hh', TH h a n ad K W vs cmp nk sz mc hh' (rotR T i r) → Q .null (ovl h a hh')) : V E mJ1_rotateRight 0 0 0 [some (.ref a), some (.ref (ad i)), none] [] (ovl h a hh) Q X := by
  obtain ⟨S0, S1, S2⟩ := S
  obtain ⟨a1, a2, a3, a4, a5, a6, a7, a8, a9⟩ := S2 i h0
  obtain ⟨b1, b3, b4, b5⟩ := a5 r hr
  have b2 : r < n := by omega
  obtain ⟨c1, c2, c3, c4, c5, c6, c7, c8, c9⟩ := S2 r b2
  have nir : i ≠ r := by omega
  rcases hq : T 1 r with _ | q
  · rcases hp : T 2 i with _ | p
    · refine V_aload_n dJ1_rotateRight_0 rfl ?_
      refine V_ifnull dJ1_rotateRight_1 ?_
      refine V_aload_n dJ1_rotateRight_4 rfl ?_
      refine VT_get 0 (by decide) P h0 dJ1_rotateRight_5 q660 (o := some r) hr ?_
      refine V_astore_n dJ1_rotateRight_8 (by decide) ?_
      refine V_aload_n dJ1_rotateRight_9 rfl ?_
      refine V_aload_n dJ1_rotateRight_10 rfl ?_
      refine VT_get 1 (by decide) P b2 dJ1_rotateRight_11 q661 (o := none) hq ?_
      refine VT_put 0 (by decide) P h0 dJ1_rotateRight_14 q660 (o := none) (fun _ e => by cases e) (fun hh14_1 P14_1 => ?_)
      refine V_aload_n dJ1_rotateRight_17 rfl ?_
      refine VT_get 1 (by decide) P14_1 b2 dJ1_rotateRight_18 q661 (o := none) ((tup_nk (by decide)).trans hq) ?_
      refine V_ifnullN 32 dJ1_rotateRight_21 (by decide) ?_
      refine V_aload_n dJ1_rotateRight_32 rfl ?_
      refine V_aload_n dJ1_rotateRight_33 rfl ?_
      refine VT_get 2 (by decide) P14_1 h0 dJ1_rotateRight_34 q663 (o := none) ((tup_nk (by decide)).trans hp) ?_
      refine VT_put 2 (by decide) P14_1 b2 dJ1_rotateRight_37 q663 (o := none) (fun _ e => by cases e) (fun hh37_2 P37_2 => ?_)
      refine V_aload_n dJ1_rotateRight_40 rfl ?_
      refine VT_get 2 (by decide) P37_2 h0 dJ1_rotateRight_41 q663 (o := none) ((tup_ni nir).trans ((tup_nk (by decide)).trans hp)) ?_
      refine V_ifnonnullN dJ1_rotateRight_44 ?_
      refine V_aload_n dJ1_rotateRight_47 rfl ?_
      refine V_aload_n dJ1_rotateRight_48 rfl ?_
      refine VT_putRoot P37_2 dJ1_rotateRight_49 q190 (o := some r) (fun _ e => by cases e; exact b2) (fun hh49_3 P49_3 => ?_)
      refine V_goto 85 dJ1_rotateRight_52 (by decide) ?_
      refine V_aload_n dJ1_rotateRight_85 rfl ?_
      refine V_aload_n dJ1_rotateRight_86 rfl ?_
      refine VT_put 1 (by decide) P49_3 b2 dJ1_rotateRight_87 q661 (o := some i) (fun _ e => by cases e; exact h0) (fun hh87_4 P87_4 => ?_)
      refine V_aload_n dJ1_rotateRight_90 rfl ?_
      refine V_aload_n dJ1_rotateRight_91 rfl ?_
      refine VT_put 2 (by decide) P87_4 h0 dJ1_rotateRight_92 q663 (o := some r) (fun _ e => by cases e; exact b2) (fun hh92_5 P92_5 => ?_)
      exact V_vret dJ1_rotateRight_95 rfl (by exact K' _ (by have e : (tup (tup (tup (tup (tup T 0 i none) 2 r none) 3 0 (some r)) 1 r (some i)) 2 i (some r)) = rotR T i r := (by funext k j; match k with | 0 => (simp only [tup, rotR]; grind) | 1 => (simp only [tup, rotR]; grind) | 2 => (simp only [tup, rotR]; grind) | 3 => (simp only [tup, rotR]; grind) | k + 4 => simp [tup, rotR]); rw [← e]; exact P92_5))
    · obtain ⟨z1, z2⟩ := a9 p hp
      have nip : i ≠ p := by rintro rfl; rcases z2 with z | z <;> grind
      have nrp : r ≠ p := by rintro rfl; rcases z2 with z | z <;> grind
      by_cases hpl : T 1 p = some i
      · refine V_aload_n dJ1_rotateRight_0 rfl ?_
        refine V_ifnull dJ1_rotateRight_1 ?_
        refine V_aload_n dJ1_rotateRight_4 rfl ?_
        refine VT_get 0 (by decide) P h0 dJ1_rotateRight_5 q660 (o := some r) hr ?_
        refine V_astore_n dJ1_rotateRight_8 (by decide) ?_
        refine V_aload_n dJ1_rotateRight_9 rfl ?_
        refine V_aload_n dJ1_rotateRight_10 rfl ?_
        refine VT_get 1 (by decide) P b2 dJ1_rotateRight_11 q661 (o := none) hq ?_
        refine VT_put 0 (by decide) P h0 dJ1_rotateRight_14 q660 (o := none) (fun _ e => by cases e) (fun hh14_1 P14_1 => ?_)
        refine V_aload_n dJ1_rotateRight_17 rfl ?_
        refine VT_get 1 (by decide) P14_1 b2 dJ1_rotateRight_18 q661 (o := none) ((tup_nk (by decide)).trans hq) ?_
        refine V_ifnullN 32 dJ1_rotateRight_21 (by decide) ?_
        refine V_aload_n dJ1_rotateRight_32 rfl ?_
        refine V_aload_n dJ1_rotateRight_33 rfl ?_
        refine VT_get 2 (by decide) P14_1 h0 dJ1_rotateRight_34 q663 (o := some p) ((tup_nk (by decide)).trans hp) ?_
        refine VT_put 2 (by decide) P14_1 b2 dJ1_rotateRight_37 q663 (o := some p) (fun _ e => by cases e; exact z1) (fun hh37_2 P37_2 => ?_)
        refine V_aload_n dJ1_rotateRight_40 rfl ?_
        refine VT_get 2 (by decide) P37_2 h0 dJ1_rotateRight_41 q663 (o := some p) ((tup_ni nir).trans ((tup_nk (by decide)).trans hp)) ?_
        refine V_ifnonnull 55 dJ1_rotateRight_44 (by decide) ?_
        refine V_aload_n dJ1_rotateRight_55 rfl ?_
        refine VT_get 2 (by decide) P37_2 h0 dJ1_rotateRight_56 q663 (o := some p) ((tup_ni nir).trans ((tup_nk (by decide)).trans hp)) ?_
        refine VT_get 1 (by decide) P37_2 z1 dJ1_rotateRight_59 q661 (o := some i) ((tup_nk (by decide)).trans ((tup_nk (by decide)).trans hpl)) ?_
        refine V_aload_n dJ1_rotateRight_62 rfl ?_
        refine V_acmp_ne (rx := (some (ad i))) (ry := (some (ad i))) 77 dJ1_rotateRight_63 (by decide) (fun c_63 => absurd rfl c_63) (fun _ => ?_)
        refine V_aload_n dJ1_rotateRight_66 rfl ?_
        refine VT_get 2 (by decide) P37_2 h0 dJ1_rotateRight_67 q663 (o := some p) ((tup_ni nir).trans ((tup_nk (by decide)).trans hp)) ?_
        refine V_aload_n dJ1_rotateRight_70 rfl ?_
        refine VT_put 1 (by decide) P37_2 z1 dJ1_rotateRight_71 q661 (o := some r) (fun _ e => by cases e; exact b2) (fun hh71_3 P71_3 => ?_)
        refine V_goto 85 dJ1_rotateRight_74 (by decide) ?_
        refine V_aload_n dJ1_rotateRight_85 rfl ?_
        refine V_aload_n dJ1_rotateRight_86 rfl ?_
        refine VT_put 1 (by decide) P71_3 b2 dJ1_rotateRight_87 q661 (o := some i) (fun _ e => by cases e; exact h0) (fun hh87_4 P87_4 => ?_)
        refine V_aload_n dJ1_rotateRight_90 rfl ?_
        refine V_aload_n dJ1_rotateRight_91 rfl ?_
        refine VT_put 2 (by decide) P87_4 h0 dJ1_rotateRight_92 q663 (o := some r) (fun _ e => by cases e; exact b2) (fun hh92_5 P92_5 => ?_)
        exact V_vret dJ1_rotateRight_95 rfl (by exact K' _ (by have e : (tup (tup (tup (tup (tup T 0 i none) 2 r (some p)) 1 p (some r)) 1 r (some i)) 2 i (some r)) = rotR T i r := (by funext k j; match k with | 0 => (simp only [tup, rotR]; grind) | 1 => (simp only [tup, rotR]; grind) | 2 => (simp only [tup, rotR]; grind) | 3 => (simp only [tup, rotR]; grind) | k + 4 => simp [tup, rotR]); rw [← e]; exact P92_5))
      · refine V_aload_n dJ1_rotateRight_0 rfl ?_
        refine V_ifnull dJ1_rotateRight_1 ?_
        refine V_aload_n dJ1_rotateRight_4 rfl ?_
        refine VT_get 0 (by decide) P h0 dJ1_rotateRight_5 q660 (o := some r) hr ?_
        refine V_astore_n dJ1_rotateRight_8 (by decide) ?_
        refine V_aload_n dJ1_rotateRight_9 rfl ?_
        refine V_aload_n dJ1_rotateRight_10 rfl ?_
        refine VT_get 1 (by decide) P b2 dJ1_rotateRight_11 q661 (o := none) hq ?_
        refine VT_put 0 (by decide) P h0 dJ1_rotateRight_14 q660 (o := none) (fun _ e => by cases e) (fun hh14_1 P14_1 => ?_)
        refine V_aload_n dJ1_rotateRight_17 rfl ?_
        refine VT_get 1 (by decide) P14_1 b2 dJ1_rotateRight_18 q661 (o := none) ((tup_nk (by decide)).trans hq) ?_
        refine V_ifnullN 32 dJ1_rotateRight_21 (by decide) ?_
        refine V_aload_n dJ1_rotateRight_32 rfl ?_
        refine V_aload_n dJ1_rotateRight_33 rfl ?_
        refine VT_get 2 (by decide) P14_1 h0 dJ1_rotateRight_34 q663 (o := some p) ((tup_nk (by decide)).trans hp) ?_
        refine VT_put 2 (by decide) P14_1 b2 dJ1_rotateRight_37 q663 (o := some p) (fun _ e => by cases e; exact z1) (fun hh37_2 P37_2 => ?_)
        refine V_aload_n dJ1_rotateRight_40 rfl ?_
        refine VT_get 2 (by decide) P37_2 h0 dJ1_rotateRight_41 q663 (o := some p) ((tup_ni nir).trans ((tup_nk (by decide)).trans hp)) ?_
        refine V_ifnonnull 55 dJ1_rotateRight_44 (by decide) ?_
        refine V_aload_n dJ1_rotateRight_55 rfl ?_
        refine VT_get 2 (by decide) P37_2 h0 dJ1_rotateRight_56 q663 (o := some p) ((tup_ni nir).trans ((tup_nk (by decide)).trans hp)) ?_
        refine VT_get 1 (by decide) P37_2 z1 dJ1_rotateRight_59 q661 (o := T 1 p) ((tup_nk (by decide)).trans ((tup_nk (by decide)).trans rfl)) ?_
        refine V_aload_n dJ1_rotateRight_62 rfl ?_
        refine V_acmp_ne (rx := (Option.map ad (T 1 p))) (ry := (some (ad i))) 77 dJ1_rotateRight_63 (by decide) (fun c_63 => ?_) (fun c_63 => by exfalso; exact hpl (P.opt h0 (fun j e => P.2.2.2.2.1 1 p j (by decide) z1 e) c_63))
        refine V_aload_n dJ1_rotateRight_77 rfl ?_
        refine VT_get 2 (by decide) P37_2 h0 dJ1_rotateRight_78 q663 (o := some p) ((tup_ni nir).trans ((tup_nk (by decide)).trans hp)) ?_
        refine V_aload_n dJ1_rotateRight_81 rfl ?_
        refine VT_put 0 (by decide) P37_2 z1 dJ1_rotateRight_82 q660 (o := some r) (fun _ e => by cases e; exact b2) (fun hh82_3 P82_3 => ?_)
        refine V_aload_n dJ1_rotateRight_85 rfl ?_
        refine V_aload_n dJ1_rotateRight_86 rfl ?_
        refine VT_put 1 (by decide) P82_3 b2 dJ1_rotateRight_87 q661 (o := some i) (fun _ e => by cases e; exact h0) (fun hh87_4 P87_4 => ?_)
        refine V_aload_n dJ1_rotateRight_90 rfl ?_
        refine V_aload_n dJ1_rotateRight_91 rfl ?_
        refine VT_put 2 (by decide) P87_4 h0 dJ1_rotateRight_92 q663 (o := some r) (fun _ e => by cases e; exact b2) (fun hh92_5 P92_5 => ?_)
        exact V_vret dJ1_rotateRight_95 rfl (by exact K' _ (by have e : (tup (tup (tup (tup (tup T 0 i none) 2 r (some p)) 0 p (some r)) 1 r (some i)) 2 i (some r)) = rotR T i r := (by funext k j; match k with | 0 => (simp only [tup, rotR]; grind) | 1 => (simp only [tup, rotR]; grind) | 2 => (simp only [tup, rotR]; grind) | 3 => (simp only [tup, rotR]; grind) | k + 4 => simp [tup, rotR]); rw [← e]; exact P92_5))
  · obtain ⟨y1, hqn, y2, y3, y4⟩ := c7 q hq
    have := (S2 q hqn).2.1
    have niq : i ≠ q := by omega
    have nrq : r ≠ q := by omega
    rcases hp : T 2 i with _ | p
    · refine V_aload_n dJ1_rotateRight_0 rfl ?_
      refine V_ifnull dJ1_rotateRight_1 ?_
      refine V_aload_n dJ1_rotateRight_4 rfl ?_
      refine VT_get 0 (by decide) P h0 dJ1_rotateRight_5 q660 (o := some r) hr ?_
      refine V_astore_n dJ1_rotateRight_8 (by decide) ?_
      refine V_aload_n dJ1_rotateRight_9 rfl ?_
      refine V_aload_n dJ1_rotateRight_10 rfl ?_
      refine VT_get 1 (by decide) P b2 dJ1_rotateRight_11 q661 (o := some q) hq ?_
      refine VT_put 0 (by decide) P h0 dJ1_rotateRight_14 q660 (o := some q) (fun _ e => by cases e; exact hqn) (fun hh14_1 P14_1 => ?_)
      refine V_aload_n dJ1_rotateRight_17 rfl ?_
      refine VT_get 1 (by decide) P14_1 b2 dJ1_rotateRight_18 q661 (o := some q) ((tup_nk (by decide)).trans hq) ?_
      refine V_ifnull dJ1_rotateRight_21 ?_
      refine V_aload_n dJ1_rotateRight_24 rfl ?_
      refine VT_get 1 (by decide) P14_1 b2 dJ1_rotateRight_25 q661 (o := some q) ((tup_nk (by decide)).trans hq) ?_
      refine V_aload_n dJ1_rotateRight_28 rfl ?_
      refine VT_put 2 (by decide) P14_1 hqn dJ1_rotateRight_29 q663 (o := some i) (fun _ e => by cases e; exact h0) (fun hh29_2 P29_2 => ?_)
      refine V_aload_n dJ1_rotateRight_32 rfl ?_
      refine V_aload_n dJ1_rotateRight_33 rfl ?_
      refine VT_get 2 (by decide) P29_2 h0 dJ1_rotateRight_34 q663 (o := none) ((tup_ni niq).trans ((tup_nk (by decide)).trans hp)) ?_
      refine VT_put 2 (by decide) P29_2 b2 dJ1_rotateRight_37 q663 (o := none) (fun _ e => by cases e) (fun hh37_3 P37_3 => ?_)
      refine V_aload_n dJ1_rotateRight_40 rfl ?_
      refine VT_get 2 (by decide) P37_3 h0 dJ1_rotateRight_41 q663 (o := none) ((tup_ni nir).trans ((tup_ni niq).trans ((tup_nk (by decide)).trans hp))) ?_
      refine V_ifnonnullN dJ1_rotateRight_44 ?_
      refine V_aload_n dJ1_rotateRight_47 rfl ?_
      refine V_aload_n dJ1_rotateRight_48 rfl ?_
      refine VT_putRoot P37_3 dJ1_rotateRight_49 q190 (o := some r) (fun _ e => by cases e; exact b2) (fun hh49_4 P49_4 => ?_)
      refine V_goto 85 dJ1_rotateRight_52 (by decide) ?_
      refine V_aload_n dJ1_rotateRight_85 rfl ?_
      refine V_aload_n dJ1_rotateRight_86 rfl ?_
      refine VT_put 1 (by decide) P49_4 b2 dJ1_rotateRight_87 q661 (o := some i) (fun _ e => by cases e; exact h0) (fun hh87_5 P87_5 => ?_)
      refine V_aload_n dJ1_rotateRight_90 rfl ?_
      refine V_aload_n dJ1_rotateRight_91 rfl ?_
      refine VT_put 2 (by decide) P87_5 h0 dJ1_rotateRight_92 q663 (o := some r) (fun _ e => by cases e; exact b2) (fun hh92_6 P92_6 => ?_)
      exact V_vret dJ1_rotateRight_95 rfl (by exact K' _ (by have e : (tup (tup (tup (tup (tup (tup T 0 i (some q)) 2 q (some i)) 2 r none) 3 0 (some r)) 1 r (some i)) 2 i (some r)) = rotR T i r := (by funext k j; match k with | 0 => (simp only [tup, rotR]; grind) | 1 => (simp only [tup, rotR]; grind) | 2 => (simp only [tup, rotR]; grind) | 3 => (simp only [tup, rotR]; grind) | k + 4 => simp [tup, rotR]); rw [← e]; exact P92_6))
    · obtain ⟨z1, z2⟩ := a9 p hp
      have nip : i ≠ p := by rintro rfl; rcases z2 with z | z <;> grind
      have nrp : r ≠ p := by rintro rfl; rcases z2 with z | z <;> grind
      have nqp : q ≠ p := by
        rintro rfl
        obtain ⟨d1, d2, d3, d4, d5, d6, d7, d8, d9⟩ := S2 q z1
        rcases z2 with z | z
        · have := d5 i z; omega
        · have := d7 i z; omega
      by_cases hpl : T 1 p = some i
      · refine V_aload_n dJ1_rotateRight_0 rfl ?_
        refine V_ifnull dJ1_rotateRight_1 ?_
        refine V_aload_n dJ1_rotateRight_4 rfl ?_
        refine VT_get 0 (by decide) P h0 dJ1_rotateRight_5 q660 (o := some r) hr ?_
        refine V_astore_n dJ1_rotateRight_8 (by decide) ?_
        refine V_aload_n dJ1_rotateRight_9 rfl ?_
        refine V_aload_n dJ1_rotateRight_10 rfl ?_
        refine VT_get 1 (by decide) P b2 dJ1_rotateRight_11 q661 (o := some q) hq ?_
        refine VT_put 0 (by decide) P h0 dJ1_rotateRight_14 q660 (o := some q) (fun _ e => by cases e; exact hqn) (fun hh14_1 P14_1 => ?_)
        refine V_aload_n dJ1_rotateRight_17 rfl ?_
        refine VT_get 1 (by decide) P14_1 b2 dJ1_rotateRight_18 q661 (o := some q) ((tup_nk (by decide)).trans hq) ?_
        refine V_ifnull dJ1_rotateRight_21 ?_
        refine V_aload_n dJ1_rotateRight_24 rfl ?_
        refine VT_get 1 (by decide) P14_1 b2 dJ1_rotateRight_25 q661 (o := some q) ((tup_nk (by decide)).trans hq) ?_
        refine V_aload_n dJ1_rotateRight_28 rfl ?_
        refine VT_put 2 (by decide) P14_1 hqn dJ1_rotateRight_29 q663 (o := some i) (fun _ e => by cases e; exact h0) (fun hh29_2 P29_2 => ?_)
        refine V_aload_n dJ1_rotateRight_32 rfl ?_
        refine V_aload_n dJ1_rotateRight_33 rfl ?_
        refine VT_get 2 (by decide) P29_2 h0 dJ1_rotateRight_34 q663 (o := some p) ((tup_ni niq).trans ((tup_nk (by decide)).trans hp)) ?_
        refine VT_put 2 (by decide) P29_2 b2 dJ1_rotateRight_37 q663 (o := some p) (fun _ e => by cases e; exact z1) (fun hh37_3 P37_3 => ?_)
        refine V_aload_n dJ1_rotateRight_40 rfl ?_
        refine VT_get 2 (by decide) P37_3 h0 dJ1_rotateRight_41 q663 (o := some p) ((tup_ni nir).trans ((tup_ni niq).trans ((tup_nk (by decide)).trans hp))) ?_
        refine V_ifnonnull 55 dJ1_rotateRight_44 (by decide) ?_
        refine V_aload_n dJ1_rotateRight_55 rfl ?_
        refine VT_get 2 (by decide) P37_3 h0 dJ1_rotateRight_56 q663 (o := some p) ((tup_ni nir).trans ((tup_ni niq).trans ((tup_nk (by decide)).trans hp))) ?_
        refine VT_get 1 (by decide) P37_3 z1 dJ1_rotateRight_59 q661 (o := some i) ((tup_nk (by decide)).trans ((tup_nk (by decide)).trans ((tup_nk (by decide)).trans hpl))) ?_
        refine V_aload_n dJ1_rotateRight_62 rfl ?_
        refine V_acmp_ne (rx := (some (ad i))) (ry := (some (ad i))) 77 dJ1_rotateRight_63 (by decide) (fun c_63 => absurd rfl c_63) (fun _ => ?_)
        refine V_aload_n dJ1_rotateRight_66 rfl ?_
        refine VT_get 2 (by decide) P37_3 h0 dJ1_rotateRight_67 q663 (o := some p) ((tup_ni nir).trans ((tup_ni niq).trans ((tup_nk (by decide)).trans hp))) ?_
        refine V_aload_n dJ1_rotateRight_70 rfl ?_
        refine VT_put 1 (by decide) P37_3 z1 dJ1_rotateRight_71 q661 (o := some r) (fun _ e => by cases e; exact b2) (fun hh71_4 P71_4 => ?_)
        refine V_goto 85 dJ1_rotateRight_74 (by decide) ?_
        refine V_aload_n dJ1_rotateRight_85 rfl ?_
        refine V_aload_n dJ1_rotateRight_86 rfl ?_
        refine VT_put 1 (by decide) P71_4 b2 dJ1_rotateRight_87 q661 (o := some i) (fun _ e => by cases e; exact h0) (fun hh87_5 P87_5 => ?_)
        refine V_aload_n dJ1_rotateRight_90 rfl ?_
        refine V_aload_n dJ1_rotateRight_91 rfl ?_
        refine VT_put 2 (by decide) P87_5 h0 dJ1_rotateRight_92 q663 (o := some r) (fun _ e => by cases e; exact b2) (fun hh92_6 P92_6 => ?_)
        exact V_vret dJ1_rotateRight_95 rfl (by exact K' _ (by have e : (tup (tup (tup (tup (tup (tup T 0 i (some q)) 2 q (some i)) 2 r (some p)) 1 p (some r)) 1 r (some i)) 2 i (some r)) = rotR T i r := (by funext k j; match k with | 0 => (simp only [tup, rotR]; grind) | 1 => (simp only [tup, rotR]; grind) | 2 => (simp only [tup, rotR]; grind) | 3 => (simp only [tup, rotR]; grind) | k + 4 => simp [tup, rotR]); rw [← e]; exact P92_6))
      · refine V_aload_n dJ1_rotateRight_0 rfl ?_
        refine V_ifnull dJ1_rotateRight_1 ?_
        refine V_aload_n dJ1_rotateRight_4 rfl ?_
        refine VT_get 0 (by decide) P h0 dJ1_rotateRight_5 q660 (o := some r) hr ?_
        refine V_astore_n dJ1_rotateRight_8 (by decide) ?_
        refine V_aload_n dJ1_rotateRight_9 rfl ?_
        refine V_aload_n dJ1_rotateRight_10 rfl ?_
        refine VT_get 1 (by decide) P b2 dJ1_rotateRight_11 q661 (o := some q) hq ?_
        refine VT_put 0 (by decide) P h0 dJ1_rotateRight_14 q660 (o := some q) (fun _ e => by cases e; exact hqn) (fun hh14_1 P14_1 => ?_)
        refine V_aload_n dJ1_rotateRight_17 rfl ?_
        refine VT_get 1 (by decide) P14_1 b2 dJ1_rotateRight_18 q661 (o := some q) ((tup_nk (by decide)).trans hq) ?_
        refine V_ifnull dJ1_rotateRight_21 ?_
        refine V_aload_n dJ1_rotateRight_24 rfl ?_
        refine VT_get 1 (by decide) P14_1 b2 dJ1_rotateRight_25 q661 (o := some q) ((tup_nk (by decide)).trans hq) ?_
        refine V_aload_n dJ1_rotateRight_28 rfl ?_
        refine VT_put 2 (by decide) P14_1 hqn dJ1_rotateRight_29 q663 (o := some i) (fun _ e => by cases e; exact h0) (fun hh29_2 P29_2 => ?_)
        refine V_aload_n dJ1_rotateRight_32 rfl ?_
        refine V_aload_n dJ1_rotateRight_33 rfl ?_
        refine VT_get 2 (by decide) P29_2 h0 dJ1_rotateRight_34 q663 (o := some p) ((tup_ni niq).trans ((tup_nk (by decide)).trans hp)) ?_
        refine VT_put 2 (by decide) P29_2 b2 dJ1_rotateRight_37 q663 (o := some p) (fun _ e => by cases e; exact z1) (fun hh37_3 P37_3 => ?_)
        refine V_aload_n dJ1_rotateRight_40 rfl ?_
        refine VT_get 2 (by decide) P37_3 h0 dJ1_rotateRight_41 q663 (o := some p) ((tup_ni nir).trans ((tup_ni niq).trans ((tup_nk (by decide)).trans hp))) ?_
        refine V_ifnonnull 55 dJ1_rotateRight_44 (by decide) ?_
        refine V_aload_n dJ1_rotateRight_55 rfl ?_
        refine VT_get 2 (by decide) P37_3 h0 dJ1_rotateRight_56 q663 (o := some p) ((tup_ni nir).trans ((tup_ni niq).trans ((tup_nk (by decide)).trans hp))) ?_
        refine VT_get 1 (by decide) P37_3 z1 dJ1_rotateRight_59 q661 (o := T 1 p) ((tup_nk (by decide)).trans ((tup_nk (by decide)).trans ((tup_nk (by decide)).trans rfl))) ?_
        refine V_aload_n dJ1_rotateRight_62 rfl ?_
        refine V_acmp_ne (rx := (Option.map ad (T 1 p))) (ry := (some (ad i))) 77 dJ1_rotateRight_63 (by decide) (fun c_63 => ?_) (fun c_63 => by exfalso; exact hpl (P.opt h0 (fun j e => P.2.2.2.2.1 1 p j (by decide) z1 e) c_63))
        refine V_aload_n dJ1_rotateRight_77 rfl ?_
        refine VT_get 2 (by decide) P37_3 h0 dJ1_rotateRight_78 q663 (o := some p) ((tup_ni nir).trans ((tup_ni niq).trans ((tup_nk (by decide)).trans hp))) ?_
        refine V_aload_n dJ1_rotateRight_81 rfl ?_
        refine VT_put 0 (by decide) P37_3 z1 dJ1_rotateRight_82 q660 (o := some r) (fun _ e => by cases e; exact b2) (fun hh82_4 P82_4 => ?_)
        refine V_aload_n dJ1_rotateRight_85 rfl ?_
        refine V_aload_n dJ1_rotateRight_86 rfl ?_
        refine VT_put 1 (by decide) P82_4 b2 dJ1_rotateRight_87 q661 (o := some i) (fun _ e => by cases e; exact h0) (fun hh87_5 P87_5 => ?_)
        refine V_aload_n dJ1_rotateRight_90 rfl ?_
        refine V_aload_n dJ1_rotateRight_91 rfl ?_
        refine VT_put 2 (by decide) P87_5 h0 dJ1_rotateRight_92 q663 (o := some r) (fun _ e => by cases e; exact b2) (fun hh92_6 P92_6 => ?_)
        exact V_vret dJ1_rotateRight_95 rfl (by exact K' _ (by have e : (tup (tup (tup (tup (tup (tup T 0 i (some q)) 2 q (some i)) 2 r (some p)) 0 p (some r)) 1 r (some i)) 2 i (some r)) = rotR T i r := (by funext k j; match k with | 0 => (simp only [tup, rotR]; grind) | 1 => (simp only [tup, rotR]; grind) | 2 => (simp only [tup, rotR]; grind) | 3 => (simp only [tup, rotR]; grind) | k + 4 => simp [tup, rotR]); rw [← e]; exact P92_6))
end TM5
