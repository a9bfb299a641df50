/-! TREES: a key put in -/
def insF {α : Type} (j : Nat) (x : α) (f : Nat → α) : Nat → α := fun i => if i < j then f i else if i = j then x else f (i - 1)
theorem insF_eq {α : Type} {j : Nat} {x : α} {f : Nat → α} : insF j x f j = x := by simp [insF]
theorem insF_U {α : Type} {j m : Nat} {x : α} {f : Nat → α} : insF j x f (shU j m) = f m := by
  unfold insF shU
  split
  · simp_all
  · rw [if_neg (by omega), if_neg (by omega), Nat.add_sub_cancel]
theorem mapU {j x : Nat} {f : Nat → Nat} {o : Option Nat} : Option.map (insF j x f) (Option.map (shU j) o) = Option.map f o := by
  cases o with
  | none => rfl
  | some m => simp only [Option.map_some, insF_U]
section TM10
variable {E : Ev} {a n i p r x key w : Nat} {h hh : AH} {Q : Value → AH → Prop} {X : Nat → AH → Prop} {ad K W : Nat → Nat} {vs cmp nk : Value} {sz mc : Int} {T : TT} {lo hi : Nat → Nat} {c : Nat → Int}
theorem TH_insL (P : TH h a n ad K W vs cmp nk sz mc hh T) (hx : hh x = none) (hx2 : h x = none) (hxa : x ≠ a) (hp : p < n) (h0 : T 0 p = none) :
    TH h a (n + 1) (insF p x ad) (insF p key K) (insF p w W) vs cmp nk sz mc (hset (hset hh x (oO 16 [.ref key, .ref w, .null, .null, .ref (ad p), vI 1])) (ad p) (oO 16 [.ref (K p), .ref (W p), .ref x, va_rf ((T 1 p).map ad), va_rf ((T 2 p).map ad), vI (cV (T 4 p))])) (insL T p) := by
  have hna := fun {i : Nat} => TH.na (i := i) P
  obtain ⟨p1, p2, p3, p4, p5, p6⟩ := P
  have hxn : ∀ m, m < n → ad m ≠ x := fun m hm e => by have := p3 m hm; rw [e, hx] at this; cases this
  have hpn : hset hh x (oO 16 [.ref key, .ref w, .null, .null, .ref (ad p), vI 1]) (ad p) ≠ none := by rw [hset_ne (hxn p hp), p3 p hp]; simp
  refine ⟨⟨(p1.1.set (Or.inr hx2)).set (Or.inl hpn), (p1.2.new hx).old (by rw [hset_ne (hxn p hp)]; exact p3 p hp) rfl rfl⟩, ?_, fun i hi => ?_, fun i j hi hj e => ?_, fun k i j hk hi e => ?_, fun j e => ?_⟩
  · rw [hset_ne (fun e => hna hp e.symm), hset_ne (fun e => hxa e.symm), p2]
    simp only [tmO, insL, mapU]
  · by_cases e : i = p
    · subst e
      rw [hset_ne (by rw [insF_eq]; exact fun z => hxn i hp z.symm), insF_eq, hset_eq]
      unfold eC
      simp only [insF_eq, insL, if_true, Option.map_none, Option.map_some]
      rw [show insF i x ad (i + 1) = ad i from by have := @insF_U Nat i i x ad; rwa [shU_p.2 rfl] at this]
      rfl
    · obtain ⟨m, rfl, hm⟩ := shU_ex hi (Nat.le_of_lt hp) e
      rw [insF_U]
      by_cases e2 : m = p
      · subst e2
        rw [hset_eq]
        unfold eC
        simp only [insF_U, insL, if_neg (shU_ne (p := m) (m := m)), shDU, shU_p, if_true, mapU, Option.map_some, insF_eq]
        rfl
      · rw [hset_ne (fun z => e2 (p4 m p hm hp z)), hset_ne (hxn m hm), p3 m hm]
        unfold eC
        simp only [insF_U, insL, if_neg (shU_ne (p := p) (m := m)), shDU, shU_p, if_neg e2, mapU]
  · by_cases e1 : i = p <;> by_cases e2 : j = p
    · rw [e1, e2]
    · obtain ⟨m, rfl, hm⟩ := shU_ex hj (Nat.le_of_lt hp) e2
      rw [e1, insF_eq, insF_U] at e
      exact absurd e.symm (hxn m hm)
    · obtain ⟨m, rfl, hm⟩ := shU_ex hi (Nat.le_of_lt hp) e1
      rw [e2, insF_eq, insF_U] at e
      exact absurd e (hxn m hm)
    · obtain ⟨m, rfl, hm⟩ := shU_ex hi (Nat.le_of_lt hp) e1
      obtain ⟨m', rfl, hm'⟩ := shU_ex hj (Nat.le_of_lt hp) e2
      rw [insF_U, insF_U] at e
      rw [p4 m m' hm hm' e]
  · have hU : ∀ m, m < n → shU p m < n + 1 := fun m hm => by unfold shU; split <;> omega
    by_cases e1 : i = p
    · subst e1
      have : k = 0 ∨ k = 1 ∨ k = 2 := by omega
      rcases this with rfl | rfl | rfl
      · simp [insL] at e
      · simp [insL] at e
      · simp [insL] at e; omega
    · obtain ⟨m, rfl, hm⟩ := shU_ex hi (Nat.le_of_lt hp) e1
      have hmm : ∀ k, k < 3 → ∀ j, Option.map (shU p) (T k m) = some j → j < n + 1 := fun k hk j e => by
        rw [Option.map_eq_some_iff] at e
        obtain ⟨q, hq, rfl⟩ := e
        exact hU q (p5 k m q hk hm hq)
      have : k = 0 ∨ k = 1 ∨ k = 2 := by omega
      rcases this with rfl | rfl | rfl
      · simp only [insL, if_neg (shU_ne (p := p) (m := m)), shDU, shU_p] at e
        split at e
        · cases e; omega
        · exact hmm 0 hk j e
      · simp only [insL, if_neg (shU_ne (p := p) (m := m)), shDU] at e
        exact hmm 1 hk j e
      · simp only [insL, if_neg (shU_ne (p := p) (m := m)), shDU] at e
        exact hmm 2 hk j e
  · simp only [insL, Option.map_eq_some_iff] at e
    obtain ⟨q, hq, rfl⟩ := e
    have := p6 q hq
    unfold shU; split <;> omega
theorem TH_insR (P : TH h a n ad K W vs cmp nk sz mc hh T) (hx : hh x = none) (hx2 : h x = none) (hxa : x ≠ a) (hp : p < n) (h0 : T 1 p = none) :
    TH h a (n + 1) (insF (p + 1) x ad) (insF (p + 1) key K) (insF (p + 1) w W) vs cmp nk sz mc (hset (hset hh x (oO 16 [.ref key, .ref w, .null, .null, .ref (ad p), vI 1])) (ad p) (oO 16 [.ref (K p), .ref (W p), va_rf ((T 0 p).map ad), .ref x, va_rf ((T 2 p).map ad), vI (cV (T 4 p))])) (insR T p) := by
  have hna := fun {i : Nat} => TH.na (i := i) P
  obtain ⟨p1, p2, p3, p4, p5, p6⟩ := P
  have hxn : ∀ m, m < n → ad m ≠ x := fun m hm e => by have := p3 m hm; rw [e, hx] at this; cases this
  have hpn : hset hh x (oO 16 [.ref key, .ref w, .null, .null, .ref (ad p), vI 1]) (ad p) ≠ none := by rw [hset_ne (hxn p hp), p3 p hp]; simp
  refine ⟨⟨(p1.1.set (Or.inr hx2)).set (Or.inl hpn), (p1.2.new hx).old (by rw [hset_ne (hxn p hp)]; exact p3 p hp) rfl rfl⟩, ?_, fun i hi => ?_, fun i j hi hj e => ?_, fun k i j hk hi e => ?_, fun j e => ?_⟩
  · rw [hset_ne (fun e => hna hp e.symm), hset_ne (fun e => hxa e.symm), p2]
    simp only [tmO, insR, mapU]
  · by_cases e : i = p + 1
    · subst e
      rw [hset_ne (by rw [insF_eq]; exact fun z => hxn p hp z.symm), insF_eq, hset_eq]
      unfold eC
      simp only [insF_eq, insR, if_true, Option.map_none, Option.map_some]
      rw [show insF (p + 1) x ad p = ad p by simp [insF]]
      rfl
    · obtain ⟨m, rfl, hm⟩ := shU_ex hi (by omega) e
      rw [insF_U]
      by_cases e2 : m = p
      · subst e2
        rw [hset_eq]
        unfold eC
        simp only [insF_U, insR, if_neg (shU_ne (p := m + 1) (m := m)), shDU, shU_pr, if_true, mapU, Option.map_some, insF_eq]
        rfl
      · rw [hset_ne (fun z => e2 (p4 m p hm hp z)), hset_ne (hxn m hm), p3 m hm]
        unfold eC
        simp only [insF_U, insR, if_neg (shU_ne (p := p + 1) (m := m)), shDU, shU_pr, if_neg e2, mapU]
  · by_cases e1 : i = p + 1 <;> by_cases e2 : j = p + 1
    · rw [e1, e2]
    · obtain ⟨m, rfl, hm⟩ := shU_ex hj (by omega) e2
      rw [e1, insF_eq, insF_U] at e
      exact absurd e.symm (hxn m hm)
    · obtain ⟨m, rfl, hm⟩ := shU_ex hi (by omega) e1
      rw [e2, insF_eq, insF_U] at e
      exact absurd e (hxn m hm)
    · obtain ⟨m, rfl, hm⟩ := shU_ex hi (by omega) e1
      obtain ⟨m', rfl, hm'⟩ := shU_ex hj (by omega) e2
      rw [insF_U, insF_U] at e
      rw [p4 m m' hm hm' e]
  · have hU : ∀ m, m < n → shU (p + 1) m < n + 1 := fun m hm => by unfold shU; split <;> omega
    by_cases e1 : i = p + 1
    · subst e1
      have : k = 0 ∨ k = 1 ∨ k = 2 := by omega
      rcases this with rfl | rfl | rfl
      · simp [insR] at e
      · simp [insR] at e
      · simp [insR] at e; omega
    · obtain ⟨m, rfl, hm⟩ := shU_ex hi (by omega) e1
      have hmm : ∀ k, k < 3 → ∀ j, Option.map (shU (p + 1)) (T k m) = some j → j < n + 1 := fun k hk j e => by
        rw [Option.map_eq_some_iff] at e
        obtain ⟨q, hq, rfl⟩ := e
        exact hU q (p5 k m q hk hm hq)
      have : k = 0 ∨ k = 1 ∨ k = 2 := by omega
      rcases this with rfl | rfl | rfl
      · simp only [insR, if_neg (shU_ne (p := p + 1) (m := m)), shDU] at e
        exact hmm 0 hk j e
      · simp only [insR, if_neg (shU_ne (p := p + 1) (m := m)), shDU, shU_pr] at e
        split at e
        · cases e; omega
        · exact hmm 1 hk j e
      · simp only [insR, if_neg (shU_ne (p := p + 1) (m := m)), shDU] at e
        exact hmm 2 hk j e
  · simp only [insR, Option.map_eq_some_iff] at e
    obtain ⟨q, hq, rfl⟩ := e
    have := p6 q hq
    unfold shU; split <;> omega
theorem c_J16_init {v3 : Value} (hv : isR v3) (hx : h x = some (oO 16 [.null, .null, .null, .null, .null, vI 0])) (K' : Q .null (hset h x (oO 16 [.ref key, .ref w, .null, .null, v3, vI 1]))) : V E mJ16_init 1 0 0 [some (.ref x), some (.ref key), some (.ref w), some v3] [] h Q X := by
  refine V_aload_n dJ16_init_0 rfl ?_
  refine V_objI dJ16_init_1 q650 (Nat.le_of_ble_eq_true rfl) (by first | decide | omega) ?_
  refine V_aload_n dJ16_init_4 rfl ?_
  refine V_iconst dJ16_init_5 ?_
  refine V_putfE (fs' := [.null, .null, .null, .null, .null, vI 1]) okJ16 5 dJ16_init_6 q664 (by decide) rfl hx (by decide) (Nat.le_of_ble_eq_true rfl) rfl rfl rfl rfl ?_
  refine V_aload_n dJ16_init_9 rfl ?_
  refine V_aload_n dJ16_init_10 rfl ?_
  refine V_putfE (fs' := [.ref key, .null, .null, .null, .null, vI 1]) okJ16 0 dJ16_init_11 q651 (by decide) rfl hset_eq (by decide) (Nat.le_of_ble_eq_true rfl) rfl rfl rfl hset_hset ?_
  refine V_aload_n dJ16_init_14 rfl ?_
  refine V_aload_n dJ16_init_15 rfl ?_
  refine V_putfE (fs' := [.ref key, .ref w, .null, .null, .null, vI 1]) okJ16 1 dJ16_init_16 q657 (by decide) rfl hset_eq (by decide) (Nat.le_of_ble_eq_true rfl) rfl rfl rfl hset_hset ?_
  refine V_aload_n dJ16_init_19 rfl ?_
  refine V_aload_nG dJ16_init_20 hv rfl ?_
  refine V_putfE (fs' := [.ref key, .ref w, .null, .null, v3, vI 1]) okJ16 4 dJ16_init_21 q662 (by decide) rfl hset_eq (by decide) (Nat.le_of_ble_eq_true rfl) (isR.narO hv) (isR.fitO hv) rfl hset_hset ?_
  exact V_vret dJ16_init_24 rfl (by exact K')
/-- what goes on behind a put -/
abbrev KQ (h : AH) (a n : Nat) (ad K W : Nat → Nat) (vs cmp nk : Value) (sz mc : Int) (Q : Value → AH → Prop) : Prop := ∀ (hh' : AH) (T' : TT) (lo' hi' : Nat → Nat), TH h a n ad K W vs cmp nk (sz + 1) (mc + 1) hh' T' → Tsh n T' lo' hi' → (∀ r, T' 3 0 = some r → T' 4 r ≠ none) → Q .null (ovl h a hh')
theorem addE_tail {l1 l2 l3 l4 : Option Value} {b : Nat} (P : TH h a n ad K W vs cmp nk sz mc hh T) (S : Tsh n T lo hi) (h0 : i < n) (RB : ∀ r, T 3 0 = some r → T 4 r ≠ none) (K' : KQ h a n ad K W vs cmp nk sz mc Q) : V E mJ1_addEntry 2 b 32 [some (.ref a), l1, l2, l3, l4, some (.ref (ad i))] [] (ovl h a hh) Q X := by
  refine V_aload_n dJ1_addEntry_32 rfl ?_
  refine V_aload dJ1_addEntry_33 rfl ?_
  refine V_invVc (M' := mJ1_fixAfterInsertion) (As := [.ref (ad i)]) (rest := []) okJ1_fixAfterInsertion dJ1_addEntry_35 q686 rfl rfl (clsE.o P.ob) rfl rfl (Nat.le_of_ble_eq_true rfl) (d' := 1) (b1 := 0) (by first | decide | omega) (by first | decide | omega) (c_J1_fixAfterInsertion P S h0 (Or.inr RB) (fun hh35_1 T' lo' hi' P35_1 S' R' => ?_))
  refine V_aload_n dJ1_addEntry_38 rfl ?_
  refine V_dup dJ1_addEntry_39 rfl ?_
  refine V_getf okJ1 4 dJ1_addEntry_40 q191 (by decide) P35_1.ob rfl ?_
  refine V_iconst dJ1_addEntry_43 ?_
  refine V_iadd dJ1_addEntry_44 ?_
  refine VT_putSz P35_1 dJ1_addEntry_45 q191   (fun hh45_2 P45_2 => ?_)
  refine V_aload_n dJ1_addEntry_48 rfl ?_
  refine V_dup dJ1_addEntry_49 rfl ?_
  refine V_getf okJ1 5 dJ1_addEntry_50 q192 (by decide) P45_2.ob rfl ?_
  refine V_iconst dJ1_addEntry_53 ?_
  refine V_iadd dJ1_addEntry_54 ?_
  refine VT_putMc P45_2 dJ1_addEntry_55 q192   (fun hh55_3 P55_3 => ?_)
  exact V_vret dJ1_addEntry_58 rfl (by exact K' _ _ _ _ P55_3 S' R')
theorem c_J1_addEntry {b : Nat} {z : Int} (P : TH h a n ad K W vs cmp nk sz mc hh T) (S : Tsh n T lo hi) (hp : p < n) (RB : ∀ r, T 3 0 = some r → T 4 r ≠ none) (hb : 7 ≤ b) (hz : z = 1 ∧ T 0 p = none ∨ z = 0 ∧ T 1 p = none) (KL : z = 1 → ∀ x, h x = none → KQ h a (n + 1) (insF p x ad) (insF p key K) (insF p w W) vs cmp nk sz mc Q) (KR : z = 0 → ∀ x, h x = none → KQ h a (n + 1) (insF (p + 1) x ad) (insF (p + 1) key K) (insF (p + 1) w W) vs cmp nk sz mc Q) : V E mJ1_addEntry 2 b 0 [some (.ref a), some (.ref key), some (.ref w), some (.ref (ad p)), some (vI z), none] [] (ovl h a hh) Q X := by
  rcases hz with ⟨rfl, h0⟩ | ⟨rfl, h0⟩
  · have en : ovl h a hh (ad p) = some (oO 16 [.ref (K p), .ref (W p), .null, va_rf ((T 1 p).map ad), va_rf ((T 2 p).map ad), vI (cV (T 4 p))]) := by
      rw [P.en hp]; simp only [eC, h0]; rfl
    have fin : ∀ x, ovl h a hh x = none → ∀ b, V E mJ1_addEntry 2 b 32 [some (.ref a), some (.ref key), some (.ref w), some (.ref (ad p)), some (vI 1), some (.ref x)] [] (hset (hset (ovl h a hh) x (oO 16 [.ref key, .ref w, .null, .null, .ref (ad p), vI 1])) (ad p) (oO 16 [.ref (K p), .ref (W p), .ref x, va_rf ((T 1 p).map ad), va_rf ((T 2 p).map ad), vI (cV (T 4 p))])) Q X := by
      intro x hx b
      obtain ⟨x1, x2, x3⟩ := ovl_none hx P.2.1
      obtain ⟨lo', hi', S'⟩ := Tsh_insL S hp h0
      have P2 := TH_insL (key := key) (w := w) P x1 x2 x3 hp h0
      simp only [ovl_set]
      have := addE_tail (E := E) (X := X) (l1 := some (.ref key)) (l2 := some (.ref w)) (l3 := some (.ref (ad p))) (l4 := some (vI 1)) (b := b) (i := p) P2 S' (by omega) (fun r hr => by
        simp only [insL, Option.map_eq_some_iff] at hr
        obtain ⟨q, hq, rfl⟩ := hr
        simp only [insL, if_neg (shU_ne (p := p) (m := q)), shDU]
        exact RB q hq) (KL rfl x x2)
      rw [insF_eq] at this
      exact this
    refine V_new okJ16 dJ1_addEntry_0 q645 q646 q118 (by decide) (by first | decide | omega) (fun x hx => ?_)
    refine V_dup dJ1_addEntry_3 rfl ?_
    refine V_aload_n dJ1_addEntry_4 rfl ?_
    refine V_aload_n dJ1_addEntry_5 rfl ?_
    refine V_aload_n dJ1_addEntry_6 rfl ?_
    refine V_invI (M' := mJ16_init) (As := [.ref key, .ref w, .ref (ad p)]) (rest := [.ref x]) okJ16_init dJ1_addEntry_7 q647 rfl rfl rfl (Nat.le_of_ble_eq_true rfl) (d' := 1) (b1 := 0) (by first | decide | omega) (by first | decide | omega) (c_J16_init (v3 := .ref (ad p)) isR.rr hset_eq ?_)
    refine V_heq hset_hset ?_
    refine V_astore dJ1_addEntry_10 (by decide) ?_
    refine V_iload dJ1_addEntry_12 rfl ?_
    refine V_if_eq 26 dJ1_addEntry_14 (by decide) (by first | omega | decide) (fun c_14 => absurd c_14 (by decide)) (fun c_14 => ?_)
    refine V_aload_n dJ1_addEntry_17 rfl ?_
    refine V_aload dJ1_addEntry_18 rfl ?_
    refine V_putfE (fs' := [.ref (K p), .ref (W p), .ref x, va_rf (Option.map ad (T 1 p)), va_rf (Option.map ad (T 2 p)), vI (cV (T 4 p))]) okJ16 2 dJ1_addEntry_20 q660 (by decide) rfl ((hset_ne (ne_f en hx)).trans en) (by decide) (Nat.le_of_ble_eq_true rfl) rfl rfl rfl rfl ?_
    refine V_goto 32 dJ1_addEntry_23 (by decide) ?_
    exact fin x hx _
  · have en : ovl h a hh (ad p) = some (oO 16 [.ref (K p), .ref (W p), va_rf ((T 0 p).map ad), .null, va_rf ((T 2 p).map ad), vI (cV (T 4 p))]) := by
      rw [P.en hp]; simp only [eC, h0]; rfl
    have fin : ∀ x, ovl h a hh x = none → ∀ b, V E mJ1_addEntry 2 b 32 [some (.ref a), some (.ref key), some (.ref w), some (.ref (ad p)), some (vI 0), some (.ref x)] [] (hset (hset (ovl h a hh) x (oO 16 [.ref key, .ref w, .null, .null, .ref (ad p), vI 1])) (ad p) (oO 16 [.ref (K p), .ref (W p), va_rf ((T 0 p).map ad), .ref x, va_rf ((T 2 p).map ad), vI (cV (T 4 p))])) Q X := by
      intro x hx b
      obtain ⟨x1, x2, x3⟩ := ovl_none hx P.2.1
      obtain ⟨lo', hi', S'⟩ := Tsh_insR S hp h0
      have P2 := TH_insR (key := key) (w := w) P x1 x2 x3 hp h0
      simp only [ovl_set]
      have := addE_tail (E := E) (X := X) (l1 := some (.ref key)) (l2 := some (.ref w)) (l3 := some (.ref (ad p))) (l4 := some (vI 0)) (b := b) (i := p + 1) P2 S' (by omega) (fun r hr => by
        simp only [insR, Option.map_eq_some_iff] at hr
        obtain ⟨q, hq, rfl⟩ := hr
        simp only [insR, if_neg (shU_ne (p := p + 1) (m := q)), shDU]
        exact RB q hq) (KR rfl x x2)
      rw [insF_eq] at this
      exact this
    refine V_new okJ16 dJ1_addEntry_0 q645 q646 q118 (by decide) (by first | decide | omega) (fun x hx => ?_)
    refine V_dup dJ1_addEntry_3 rfl ?_
    refine V_aload_n dJ1_addEntry_4 rfl ?_
    refine V_aload_n dJ1_addEntry_5 rfl ?_
    refine V_aload_n dJ1_addEntry_6 rfl ?_
    refine V_invI (M' := mJ16_init) (As := [.ref key, .ref w, .ref (ad p)]) (rest := [.ref x]) okJ16_init dJ1_addEntry_7 q647 rfl rfl rfl (Nat.le_of_ble_eq_true rfl) (d' := 1) (b1 := 0) (by first | decide | omega) (by first | decide | omega) (c_J16_init (v3 := .ref (ad p)) isR.rr hset_eq ?_)
    refine V_heq hset_hset ?_
    refine V_astore dJ1_addEntry_10 (by decide) ?_
    refine V_iload dJ1_addEntry_12 rfl ?_
    refine V_if_eq 26 dJ1_addEntry_14 (by decide) (by first | omega | decide) (fun c_14 => ?_) (fun c_14 => absurd c_14 (by decide))
    refine V_aload_n dJ1_addEntry_26 rfl ?_
    refine V_aload dJ1_addEntry_27 rfl ?_
    refine V_putfE (fs' := [.ref (K p), .ref (W p), va_rf (Option.map ad (T 0 p)), .ref x, va_rf (Option.map ad (T 2 p)), vI (cV (T 4 p))]) okJ16 3 dJ1_addEntry_29 q661 (by decide) rfl ((hset_ne (ne_f en hx)).trans en) (by decide) (Nat.le_of_ble_eq_true rfl) rfl rfl rfl rfl ?_
    exact fin x hx _
end TM10
