/-! TREES: a TreeMap's cells, and rules for them -/
def cV (o : Option Nat) : Int := match o with | none => 0 | some _ => 1
abbrev eC (ad K W : Nat → Nat) (T : TT) (i : Nat) : Ao := oO 16 [.ref (K i), .ref (W i), va_rf ((T 0 i).map ad), va_rf ((T 1 i).map ad), va_rf ((T 2 i).map ad), vI (cV (T 4 i))]
abbrev tmO (ad : Nat → Nat) (vs cmp nk : Value) (sz mc : Int) (T : TT) : Ao := oO 15 [.null, vs, cmp, va_rf ((T 3 0).map ad), vI sz, vI mc, .null, nk, .null]
/-- the views that a TreeMap keeps -/
def VW (a : Nat) (vs nk : Value) (hh : AH) : Prop := (vs = .null ∨ ∃ x, vs = .ref x ∧ hh x = some (oO 21 [.ref a])) ∧ (nk = .null ∨ ∃ x, nk = .ref x ∧ hh x = some (oO 24 [.ref a]))
theorem VW.set {a y : Nat} {vs nk : Value} {hh : AH} {c : Ao} (h : VW a vs nk hh) (hy : ∀ d, hh y = some d → Nat.beq 23 (tagA d) = false ∧ Nat.beq 26 (tagA d) = false) : VW a vs nk (hset hh y c) := by
  refine ⟨h.1.imp id ?_, h.2.imp id ?_⟩
  · rintro ⟨x, rfl, e⟩
    refine ⟨x, rfl, ?_⟩
    rw [hset_ne (fun z => by
      have := (hy _ (z ▸ e)).1
      cases this)]
    exact e
  · rintro ⟨x, rfl, e⟩
    refine ⟨x, rfl, ?_⟩
    rw [hset_ne (fun z => by
      have := (hy _ (z ▸ e)).2
      cases this)]
    exact e
theorem VW.new {a y : Nat} {vs nk : Value} {hh : AH} {c : Ao} (h : VW a vs nk hh) (hy : hh y = none) : VW a vs nk (hset hh y c) := h.set (fun d e => by rw [hy] at e; cases e)
theorem VW.old {a y : Nat} {vs nk : Value} {hh : AH} {c d : Ao} (h : VW a vs nk hh) (hy : hh y = some d) (n1 : Nat.beq 23 (tagA d) = false) (n2 : Nat.beq 26 (tagA d) = false) : VW a vs nk (hset hh y c) := h.set (fun d' e => by rw [hy] at e; cases e; exact ⟨n1, n2⟩)
theorem VW.isR {a : Nat} {vs nk : Value} {hh : AH} (h : VW a vs nk hh) : isR vs ∧ isR nk := by
  constructor
  · rcases h.1 with e | ⟨x, e, -⟩ <;> rw [e]
    · exact isR.nn
    · exact isR.rr
  · rcases h.2 with e | ⟨x, e, -⟩ <;> rw [e]
    · exact isR.nn
    · exact isR.rr
/-- a TreeMap's own cells hh, at a, of n entries with keys K and values W -/
def TH (h : AH) (a : Nat) (n : Nat) (ad K W : Nat → Nat) (vs cmp nk : Value) (sz mc : Int) (hh : AH) (T : TT) : Prop :=
  (dj h a hh ∧ VW a vs nk hh) ∧ hh a = some (tmO ad vs cmp nk sz mc T) ∧ (∀ i, i < n → hh (ad i) = some (eC ad K W T i)) ∧ (∀ i j, i < n → j < n → ad i = ad j → i = j) ∧ (∀ k i j, k < 3 → i < n → T k i = some j → j < n) ∧ ∀ j, T 3 0 = some j → j < n
theorem narZ {c : Int} (h : c = 0 ∨ c = 1) : narrow .boolean (vI c) = vI c := by
  rcases h with rfl | rfl
  · rfl
  · show Value.int _ = Value.int _
    exact congrArg Value.int (nar_z (Or.inr rfl))
section TM3
variable {E : Ev} {M : Mt} {d b pc idx a n i : Nat} {ls : List (Option Value)} {rest st : List Value} {h hh : AH} {Q : Value → AH → Prop} {X : Nat → AH → Prop} {ad K W : Nat → Nat} {vs cmp nk : Value} {sz mc : Int} {T : TT} {o : Option Nat}
theorem TH.ob (P : TH h a n ad K W vs cmp nk sz mc hh T) : ovl h a hh a = some (tmO ad vs cmp nk sz mc T) := ovl_in P.2.1
theorem TH.en (P : TH h a n ad K W vs cmp nk sz mc hh T) (hi : i < n) : ovl h a hh (ad i) = some (eC ad K W T i) := ovl_in (P.2.2.1 i hi)
theorem TH.na (P : TH h a n ad K W vs cmp nk sz mc hh T) (hi : i < n) : ad i ≠ a := ne_t (P.en hi) P.ob rfl
theorem TH.put (P : TH h a n ad K W vs cmp nk sz mc hh T) (hi : i < n) {T' : TT} (hT : ∀ k j, (k = 3 ∨ j ≠ i) → T' k j = T k j) (hw : ∀ k j, k < 3 → T' k i = some j → j < n) : TH h a n ad K W vs cmp nk sz mc (hset hh (ad i) (eC ad K W T' i)) T' := by
  obtain ⟨p1, p2, p3, p4, p5, p6⟩ := P
  refine ⟨⟨p1.1.set (Or.inl (by rw [p3 i hi]; simp)), p1.2.old (p3 i hi) rfl rfl⟩, ?_, fun j hj => ?_, p4, fun k j j' hk hj e => ?_, fun j e => ?_⟩
  · rw [hset_ne (fun e => TH.na ⟨p1, p2, p3, p4, p5, p6⟩ hi e.symm), p2]
    simp only [tmO, hT 3 0 (Or.inl rfl)]
  · by_cases e : j = i
    · subst e; rw [hset_eq]
    · rw [hset_ne (fun z => e (p4 j i hj hi z)), p3 j hj]
      unfold eC
      rw [hT 0 j (Or.inr e), hT 1 j (Or.inr e), hT 2 j (Or.inr e), hT 4 j (Or.inr e)]
  · by_cases z : j = i
    · subst z; exact hw k j' hk e
    · rw [hT k j (Or.inr z)] at e; exact p5 k j j' hk hj e
  · rw [hT 3 0 (Or.inl rfl)] at e; exact p6 j e
theorem TH.putO (P : TH h a n ad K W vs cmp nk sz mc hh T) {vs' nk' : Value} {sz' mc' : Int} {T' : TT} (hT : ∀ k j, k ≠ 3 → T' k j = T k j) (hw : ∀ j, T' 3 0 = some j → j < n) (hv : VW a vs' nk' hh) : TH h a n ad K W vs' cmp nk' sz' mc' (hset hh a (tmO ad vs' cmp nk' sz' mc' T')) T' := by
  have hn := fun {i : Nat} => TH.na (i := i) P
  obtain ⟨p1, p2, p3, p4, p5, p6⟩ := P
  refine ⟨⟨p1.1.set (Or.inl (by rw [p2]; simp)), hv.old p2 rfl rfl⟩, hset_eq, fun j hj => ?_, p4, fun k j j' hk hj e => ?_, hw⟩
  · rw [hset_ne (hn hj), p3 j hj]
    unfold eC
    rw [hT 0 j (by decide), hT 1 j (by decide), hT 2 j (by decide), hT 4 j (by decide)]
  · rw [hT k j (by omega)] at e; exact p5 k j j' hk hj e
theorem VT_get (k : Nat) (hk : k < 3) (P : TH h a n ad K W vs cmp nk sz mc hh T) (hi : i < n) (hdg : decode M.2.1 pc = .ok (.getfield idx, 3)) (q : Cond.fieldLink M.1.cls idx (TJ16 (2 + k)).1 (TJ16 (2 + k)).2.1 (TJ16 (2 + k)).2.2.1 ∈ lw_all) (ho : T k i = o) (kk : V E M d b (pc + 3) ls (va_rf (o.map ad) :: rest) (ovl h a hh) Q X) : V E M d b pc ls (.ref (ad i) :: rest) (ovl h a hh) Q X := by
  subst ho
  refine V_getf okJ16 (2 + k) hdg q (by omega) (P.en hi) ?_ kk
  match k, hk with
  | 0, _ => rfl
  | 1, _ => rfl
  | 2, _ => rfl
theorem VT_getC (P : TH h a n ad K W vs cmp nk sz mc hh T) (hi : i < n) (hdg : decode M.2.1 pc = .ok (.getfield idx, 3)) (q : Cond.fieldLink M.1.cls idx (TJ16 5).1 (TJ16 5).2.1 (TJ16 5).2.2.1 ∈ lw_all) (ho : T 4 i = o) (kk : V E M d b (pc + 3) ls (vI (cV o) :: rest) (ovl h a hh) Q X) : V E M d b pc ls (.ref (ad i) :: rest) (ovl h a hh) Q X := by
  subst ho
  exact V_getf okJ16 5 hdg q (by decide) (P.en hi) rfl kk
theorem VT_getRoot (P : TH h a n ad K W vs cmp nk sz mc hh T) (hdg : decode M.2.1 pc = .ok (.getfield idx, 3)) (q : Cond.fieldLink M.1.cls idx (TJ1 3).1 (TJ1 3).2.1 (TJ1 3).2.2.1 ∈ lw_all) (ho : T 3 0 = o) (kk : V E M d b (pc + 3) ls (va_rf (o.map ad) :: rest) (ovl h a hh) Q X) : V E M d b pc ls (.ref a :: rest) (ovl h a hh) Q X := by
  subst ho
  exact V_getf okJ1 3 hdg q (by decide) P.ob rfl kk
theorem VT_put (k : Nat) (hk : k < 3) (P : TH h a n ad K W vs cmp nk sz mc hh T) (hi : i < n) (hdg : decode M.2.1 pc = .ok (.putfield idx, 3)) (q : Cond.fieldLink M.1.cls idx (TJ16 (2 + k)).1 (TJ16 (2 + k)).2.1 (TJ16 (2 + k)).2.2.1 ∈ lw_all) (ho : ∀ j, o = some j → j < n) (kk : ∀ hh', TH h a n ad K W vs cmp nk sz mc hh' (tup T k i o) → V E M d b (pc + 3) ls rest (ovl h a hh') Q X) : V E M d b pc ls (va_rf (o.map ad) :: .ref (ad i) :: rest) (ovl h a hh) Q X := by
  have hT : ∀ k' j, (k' = 3 ∨ j ≠ i) → tup T k i o k' j = T k' j := fun k' j hz => if_neg (fun e => by
    rcases hz with hz | hz
    · omega
    · exact hz e.2)
  have hw : ∀ k' j, k' < 3 → tup T k i o k' i = some j → j < n := fun k' j hk' e => by
    unfold tup at e
    split at e
    · exact ho j e
    · exact P.2.2.2.2.1 k' i j hk' hi e
  have P' := P.put hi hT hw
  refine V_putfE (fs' := [.ref (K i), .ref (W i), va_rf ((tup T k i o 0 i).map ad), va_rf ((tup T k i o 1 i).map ad), va_rf ((tup T k i o 2 i).map ad), vI (cV (tup T k i o 4 i))]) okJ16 (2 + k) hdg q (by omega) ?_ (P.en hi) (by decide) (by show 2 + k < 6; omega) ?_ ?_ ?_ ovl_set (kk _ P')
  · match k, hk with
    | 0, _ => rfl
    | 1, _ => rfl
    | 2, _ => rfl
  · match k, hk with
    | 0, _ => exact isR.narO isR.rf
    | 1, _ => exact isR.narO isR.rf
    | 2, _ => exact isR.narO isR.rf
  · match k, hk with
    | 0, _ => exact isR.fitO isR.rf
    | 1, _ => exact isR.fitO isR.rf
    | 2, _ => exact isR.fitO isR.rf
  · match k, hk with
    | 0, _ => simp [tup]
    | 1, _ => simp [tup]
    | 2, _ => simp [tup]
theorem VT_putC {c : Int} (P : TH h a n ad K W vs cmp nk sz mc hh T) (hi : i < n) (hdg : decode M.2.1 pc = .ok (.putfield idx, 3)) (q : Cond.fieldLink M.1.cls idx (TJ16 5).1 (TJ16 5).2.1 (TJ16 5).2.2.1 ∈ lw_all) (o : Option Nat) (ho : cV o = c) (kk : ∀ hh', TH h a n ad K W vs cmp nk sz mc hh' (tup T 4 i o) → V E M d b (pc + 3) ls rest (ovl h a hh') Q X) : V E M d b pc ls (vI c :: .ref (ad i) :: rest) (ovl h a hh) Q X := by
  subst ho
  have hT : ∀ k' j, (k' = 3 ∨ j ≠ i) → tup T 4 i o k' j = T k' j := fun k' j hz => if_neg (fun e => by
    rcases hz with hz | hz
    · omega
    · exact hz e.2)
  have hw : ∀ k' j, k' < 3 → tup T 4 i o k' i = some j → j < n := fun k' j hk' e => by
    rw [tup_nk (by omega)] at e
    exact P.2.2.2.2.1 k' i j hk' hi e
  have P' := P.put hi hT hw
  refine V_putfE (fs' := [.ref (K i), .ref (W i), va_rf ((tup T 4 i o 0 i).map ad), va_rf ((tup T 4 i o 1 i).map ad), va_rf ((tup T 4 i o 2 i).map ad), vI (cV (tup T 4 i o 4 i))]) okJ16 5 hdg q (by decide) rfl (P.en hi) (by decide) (Nat.le_of_ble_eq_true rfl) ?_ ?_ ?_ ovl_set (kk _ P')
  · exact narZ (by cases o <;> simp [cV])
  · cases o <;> rfl
  · simp [tup]
theorem VT_putRoot (P : TH h a n ad K W vs cmp nk sz mc hh T) (hdg : decode M.2.1 pc = .ok (.putfield idx, 3)) (q : Cond.fieldLink M.1.cls idx (TJ1 3).1 (TJ1 3).2.1 (TJ1 3).2.2.1 ∈ lw_all) (ho : ∀ j, o = some j → j < n) (kk : ∀ hh', TH h a n ad K W vs cmp nk sz mc hh' (tup T 3 0 o) → V E M d b (pc + 3) ls rest (ovl h a hh') Q X) : V E M d b pc ls (va_rf (o.map ad) :: .ref a :: rest) (ovl h a hh) Q X := by
  have P' := P.putO (vs' := vs) (nk' := nk) (sz' := sz) (mc' := mc) (T' := tup T 3 0 o) (fun k j hk => tup_nk hk) (fun j e => ho j (by rw [tup_eq] at e; exact e)) P.1.2
  refine V_putfE (fs' := [.null, vs, cmp, va_rf ((tup T 3 0 o 3 0).map ad), vI sz, vI mc, .null, nk, .null]) okJ1 3 hdg q (by decide) rfl P.ob (by decide) (Nat.le_of_ble_eq_true rfl) (isR.narO isR.rf) (isR.fitO isR.rf) ?_ ovl_set (kk _ P')
  simp [tup]
def cO (T : TT) (o : Option Nat) : Int := match o with | none => 1 | some i => cV (T 4 i)
def stC (T : TT) (o c : Option Nat) : TT := match o with | none => T | some i => tup T 4 i c
end TM3
