/-! TREES: the first entry deleted -/
def shT (T : TT) : TT := fun k i => match k with
  | 3 => (T 3 i).map (· - 1)
  | 4 => T 4 (i + 1)
  | k => (T k (i + 1)).map (· - 1)
def sh1 {α : Type} (f : Nat → α) : Nat → α := fun i => f (i + 1)
theorem Tsh_congr {n : Nat} {T T' : TT} {lo hi : Nat → Nat} (e : ∀ k i, k < 3 → T' k i = T k i) (e3 : T' 3 0 = T 3 0) (S : Tsh n T lo hi) : Tsh n T' lo hi := by
  unfold Tsh Tn
  simp only [e 0 _ (by decide), e 1 _ (by decide), e 2 _ (by decide), e3]
  exact S
section TM14
variable {E : Ev} {a n i p r x s : Nat} {h hh : AH} {Q : Value → AH → Prop} {X : Nat → AH → Prop} {ad K W : Nat → Nat} {vs cmp nk : Value} {sz mc : Int} {T : TT} {lo hi : Nat → Nat} {l1 l2 : Option Value}
theorem TH_shift (P : TH h a (n + 1) ad K W vs cmp nk sz mc hh T) (hno : ∀ k i j, k < 3 → 1 ≤ i → i < n + 1 → T k i = some j → 1 ≤ j) (hrt : ∀ j, T 3 0 = some j → 1 ≤ j) : TH h a n (sh1 ad) (sh1 K) (sh1 W) vs cmp nk sz mc hh (shT T) := by
  obtain ⟨p1, p2, p3, p4, p5, p6⟩ := P
  have hm : ∀ o : Option Nat, (∀ j, o = some j → 1 ≤ j) → Option.map (sh1 ad) (Option.map (· - 1) o) = Option.map ad o := by
    intro o ho
    cases o with
    | none => rfl
    | some j =>
      have := ho j rfl
      simp only [Option.map_some, sh1]
      rw [show j - 1 + 1 = j by omega]
  refine ⟨p1, ?_, fun i hi => ?_, fun i j hi hj e => ?_, fun k i j hk hi e => ?_, fun j e => ?_⟩
  · rw [p2]
    show some (oO 15 [.null, vs, cmp, va_rf (Option.map ad (T 3 0)), vI sz, vI mc, .null, nk, .null]) = some (oO 15 [.null, vs, cmp, va_rf (Option.map (sh1 ad) (Option.map (· - 1) (T 3 0))), vI sz, vI mc, .null, nk, .null])
    rw [hm _ hrt]
  · show hh (ad (i + 1)) = _
    rw [p3 (i + 1) (by omega)]
    show some (oO 16 _) = some (oO 16 [.ref (K (i + 1)), .ref (W (i + 1)), va_rf (Option.map (sh1 ad) (Option.map (· - 1) (T 0 (i + 1)))), va_rf (Option.map (sh1 ad) (Option.map (· - 1) (T 1 (i + 1)))), va_rf (Option.map (sh1 ad) (Option.map (· - 1) (T 2 (i + 1)))), vI (cV (T 4 (i + 1)))])
    rw [hm _ (fun j e => hno 0 (i + 1) j (by decide) (by omega) (by omega) e), hm _ (fun j e => hno 1 (i + 1) j (by decide) (by omega) (by omega) e), hm _ (fun j e => hno 2 (i + 1) j (by decide) (by omega) (by omega) e)]
  · have := p4 (i + 1) (j + 1) (by omega) (by omega) e
    omega
  · have : shT T k i = Option.map (· - 1) (T k (i + 1)) := by
      have : k = 0 ∨ k = 1 ∨ k = 2 := by omega
      rcases this with rfl | rfl | rfl <;> rfl
    rw [this, Option.map_eq_some_iff] at e
    obtain ⟨q, hq, rfl⟩ := e
    have := p5 k (i + 1) q hk (by omega) hq
    have := hno k (i + 1) q hk (by omega) (by omega) hq
    omega
  · have e' : Option.map (· - 1) (T 3 0) = some j := e
    rw [Option.map_eq_some_iff] at e'
    obtain ⟨q, hq, rfl⟩ := e'
    have := p6 q hq
    have := hrt q hq
    omega
/-- facts of the first entry -/
theorem del_0 (S : Tsh (n + 1) T lo hi) : T 0 0 = none ∧ lo 0 = 0 ∧ ∀ q, T 2 0 = some q → 0 < q ∧ q < n + 1 ∧ T 0 q = some 0 ∧ lo q = 0 := by
  obtain ⟨S0, S1, S2⟩ := S
  obtain ⟨a1, a2, a3, a4, a5, a6, a7, a8, a9⟩ := S2 0 (by omega)
  refine ⟨?_, by omega, fun q hq => ?_⟩
  · cases e : T 0 0 with
    | none => rfl
    | some j => have := (a5 j e).1; omega
  · obtain ⟨z1, z2⟩ := a9 q hq
    obtain ⟨d1, d2, d3, d4, d5, d6, d7, d8, d9⟩ := S2 _ z1
    rcases z2 with z2 | z2
    · have := d5 0 z2
      exact ⟨by omega, z1, z2, by omega⟩
    · have := d7 0 z2; omega
/-- links to the first entry, but from its parent or its child -/
theorem del_no (S : Tsh (n + 1) T lo hi) {k i j : Nat} (hk : k < 3) (hi : 1 ≤ i) (hn : i < n + 1) (e : T k i = some j) (h1 : k = 0 → T 2 0 ≠ some i) (h2 : k = 2 → T 1 0 ≠ some i) : 1 ≤ j := by
  rcases Nat.eq_zero_or_pos j with rfl | hj
  · exfalso
    obtain ⟨-, -, S2⟩ := id S
    obtain ⟨d1, d2, d3, d4, d5, d6, d7, d8, d9⟩ := S2 i hn
    have : k = 0 ∨ k = 1 ∨ k = 2 := by omega
    rcases this with rfl | rfl | rfl
    · exact h1 rfl (d5 0 e).2.1
    · have := d7 0 e; omega
    · obtain ⟨-, w⟩ := d9 0 e
      rcases w with w | w
      · rw [(del_0 S).1] at w; cases w
      · exact h2 rfl w
  · exact hj
abbrev KX (h : AH) (a n : Nat) (ad K W : Nat → Nat) (vs cmp nk : Value) (sz mc : Int) (Q : Value → AH → Prop) : Prop := ∀ (hh' : AH) (T' : TT) (lo' hi' : Nat → Nat), TH h a n (sh1 ad) (sh1 K) (sh1 W) vs cmp nk sz mc hh' T' → Tsh n T' lo' hi' → RBk T' → Q .null (ovl h a hh')
/-- the first entry a leaf: it is cut off -/
theorem del_leaf (P : TH h a (n + 1) ad K W vs cmp nk sz mc hh T) (S : Tsh (n + 1) T lo hi) (RB : RBk T) (hn : 0 < n) (h1 : T 1 0 = none) (K' : KX h a n ad K W vs cmp nk sz mc Q) : V E mJ1_deleteEntry 2 0 192 [some (.ref a), some (.ref (ad 0)), l2] [] (ovl h a hh) Q X := by
  have h0 := del_0 S
  obtain ⟨S0, S1, S2⟩ := id S
  obtain ⟨a1, a2, a3, a4, a5, a6, a7, a8, a9⟩ := S2 0 (by omega)
  rcases hp : T 2 0 with _ | q
  · have := S1 0 (a8 hp)
    have := a6 h1
    omega
  · obtain ⟨z1, z2, z3, z4⟩ := h0.2.2 q hp
    have e3 : T 3 0 ≠ some 0 := fun e => by have := (S1 0 e).2.1; rw [hp] at this; cases this
    have hS := Tsh_congr (T' := shT (tup (tup T 0 q none) 2 0 none)) (fun k i hk => by
      have : k = 0 ∨ k = 1 ∨ k = 2 := by omega
      rcases this with rfl | rfl | rfl
      · simp only [shT, delT, tup]
        by_cases e : i + 1 = q
        · simp [e, hp, h1]
        · have e' : ¬ q = i + 1 := fun z => e z.symm
          simp [e, e', hp]
      · simp [shT, delT, tup]
      · simp [shT, delT, tup, h1]) (by simp [shT, delT, tup, hp]) (Tsh_del S h0.1)
    refine V_aload_n dJ1_deleteEntry_192 rfl ?_
    refine VT_get 2 (by decide) P (Nat.succ_pos n) dJ1_deleteEntry_193 q663 (o := some q) hp ?_
    refine V_ifnull dJ1_deleteEntry_196 ?_
    refine V_aload_n dJ1_deleteEntry_199 rfl ?_
    refine V_aload_n dJ1_deleteEntry_200 rfl ?_
    refine VT_get 2 (by decide) P (Nat.succ_pos n) dJ1_deleteEntry_201 q663 (o := some q) hp ?_
    refine VT_get 0 (by decide) P z2 dJ1_deleteEntry_204 q660 (o := some 0) z3 ?_
    refine V_acmp_ne (rx := (some (ad 0))) (ry := (some (ad 0))) 221 dJ1_deleteEntry_207 (by decide) (fun c_207 => absurd rfl c_207) (fun _ => ?_)
    refine V_aload_n dJ1_deleteEntry_210 rfl ?_
    refine VT_get 2 (by decide) P (Nat.succ_pos n) dJ1_deleteEntry_211 q663 (o := some q) hp ?_
    refine V_null dJ1_deleteEntry_214 ?_
    refine VT_put 0 (by decide) P z2 dJ1_deleteEntry_215 q660 (o := none) (fun _ e => by cases e) (fun hh215_1 P215_1 => ?_)
    refine V_goto 240 dJ1_deleteEntry_218 (by decide) ?_
    refine V_aload_n dJ1_deleteEntry_240 rfl ?_
    refine V_null dJ1_deleteEntry_241 ?_
    refine VT_put 2 (by decide) P215_1 (Nat.succ_pos n) dJ1_deleteEntry_242 q663 (o := none) (fun _ e => by cases e) (fun hh242_2 P242_2 => ?_)
    exact V_vret dJ1_deleteEntry_245 rfl (by exact K' _ _ _ _ (TH_shift P242_2 (fun k i j hk hi hin e => by by_cases c : k = 0 ∧ i = q; rw [c.1, c.2] at e; simp [tup] at e; have c' : T k i = some j := (by have ni : i ≠ 0 := (by omega); simp [tup, ni, c] at e; first | exact e | (rcases e with ⟨e1, e2⟩; exact e2)); exact del_no S hk hi hin c' (fun z1 z2 => c ⟨z1, by rw [hp] at z2; cases z2; rfl⟩) (fun _ => by rw [h1]; simp)) (fun j e => by simp [tup] at e; rcases Nat.eq_zero_or_pos j with rfl | z; exact absurd e e3; exact z)) hS (fun r e => by simp [shT, tup] at e; obtain ⟨q', hq', rfl⟩ := e; have : q' ≠ 0 := (by rintro rfl; exact e3 hq'); show T 4 (q' - 1 + 1) ≠ none; rw [show q' - 1 + 1 = q' by omega]; exact RB q' hq'))
end TM14
