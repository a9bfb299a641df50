/-! FOUNDATION 1: an abstract heap over the machine's heap -/
/-- an int by its mathematical value -/
def vI (z : Int) : Value := .int (Int32.ofInt z)
/-- an int's range -/
abbrev inr (z : Int) : Prop := -2147483648 ≤ z ∧ z ≤ 2147483647
theorem vI_toInt {z : Int} (h : inr z) : (Int32.ofInt z).toInt = z := by
  obtain ⟨h1, h2⟩ := h
  exact Int32.toInt_ofInt_of_le (by omega) (by omega)
theorem vI_lt {a b : Int} (ha : inr a) (hb : inr b) : Int32.ofInt a < Int32.ofInt b ↔ a < b := by
  rw [Int32.lt_iff_toInt_lt, vI_toInt ha, vI_toInt hb]
theorem vI_le {a b : Int} (ha : inr a) (hb : inr b) : Int32.ofInt a ≤ Int32.ofInt b ↔ a ≤ b := by
  rw [Int32.le_iff_toInt_le, vI_toInt ha, vI_toInt hb]
theorem vI_eq {a b : Int} (ha : inr a) (hb : inr b) : Int32.ofInt a = Int32.ofInt b ↔ a = b := by
  constructor
  · intro h
    have h1 := congrArg Int32.toInt h
    rwa [vI_toInt ha, vI_toInt hb] at h1
  · intro h; rw [h]
theorem vI_of (x : Int32) : Value.int x = vI x.toInt := by
  unfold vI; rw [Int32.ofInt_toInt]
theorem inr_toInt (x : Int32) : inr x.toInt := by
  have h1 := Int32.le_toInt x
  have h2 := Int32.toInt_lt x
  constructor <;> omega
theorem vI_clamp {i : Int} (h0 : 0 ≤ i) (h : i ≤ 2147483647) : (Int32.ofInt i).toNatClampNeg = i.toNat := by
  show (Int32.ofInt i).toInt.toNat = i.toNat
  rw [vI_toInt ⟨by omega, h⟩]
theorem vI_in {i : Int} {n : Nat} (h0 : 0 ≤ i) (h : i < n) (hn : (n : Int) ≤ 2147483647) : vp_in (Int32.ofInt i) n := by
  rw [vp_in_iff, vI_toInt ⟨by omega, by omega⟩]
  exact ⟨h0, h⟩
/-- plain objects and arrays: an array by its kind, length, contents; an object by its class's number and fields -/
abbrev Po : Type := (Nat × Nat × ((Int → Int) ⊕ (Int → Option Nat))) ⊕ (Nat × List Value)
abbrev PH : Type := Nat → Option Po
abbrev Ao : Type := Po ⊕ (Nat × (PH → Prop))
/-- the abstract heap: plain cells, and things made of several cells, told by what they say of their own part of the heap -/
abbrev AH : Type := Nat → Option Ao
def oO (ci : Nat) (fs : List Value) : Ao := .inl (.inr (ci, fs))
def oA (k n : Nat) (f : Int → Int) : Ao := .inl (.inl (k, n, .inl f))
def oR (k n : Nat) (g : Int → Option Nat) : Ao := .inl (.inl (k, n, .inr g))
/-- a thing made of several cells: the class of its head, and what it says -/
def oC (t : Nat) (Φ : PH → Prop) : Ao := .inr (t, Φ)
def hset (h : AH) (a : Nat) (c : Ao) : AH := fun q => if q = a then some c else h q
theorem hset_eq {h : AH} {a : Nat} {c : Ao} : hset h a c a = some c := if_pos rfl
theorem hset_ne {h : AH} {a b : Nat} {c : Ao} (n : b ≠ a) : hset h a c b = h b := if_neg n
/-- the classes of the objects, by their numbers: below 32 they may be written -/
def rnil : vw_C := ("", fun _ => ("", "", "", false), 0)
def clA : List vw_C := [(RX0, TX0, 14), (RX1, TX1, 3), (RX3, TX3, 4), (RX4, TX4, 8), (RX6, TX6, 5), (RX7, TX7, 50), (RX8, TX8, 10), (RX9, TX9, 7), (RX10, TX10, 7), (RX12, TX12, 1), (RX13, TX13, 1), (RX14, TX14, 1), (RX15, TX15, 3), (RX16, TX16, 3), (RX17, TX17, 3),
  (RJ1, TJ1, 9), (RJ16, TJ16, 6), (RJ19, TJ19, 4), (RJ21, TJ21, 5), (RJ23, TJ23, 2), (RJ30, TJ30, 4), (RJ31, TJ31, 1), (RJ34, TJ34, 4), (RJ36, TJ36, 4), (RJ37, TJ37, 1), (RJ39, TJ39, 4), (RJ4, TJ4, 3), (RJ41, TJ41, 12), (RJ6, TJ6, 1), (RX5, rnil.2.1, 0),
  (RJ6, TJ6, 1), (RJ6, TJ6, 1), (RJ8, TJ8, 1), (RJ42, rnil.2.1, 0)]
/-- the arrays' types, by their kinds: below 10 they may be written -/
def kA : List FieldType := [.int, .byte, .boolean, .object "java/lang/Object", .object "SignalWaves$Wave", .array .int, .int, .int, .int, .int, .int, .byte, .object "java/lang/Integer", .object "java/lang/Object"]
/-- what a launch gives: the classes' places, the arrays' classes, the heap at the law's start, addresses of constants -/
abbrev Ev : Type := va_G × (Nat → ClassId) × Heap × (Nat → Nat)
def tysA (E : Ev) : List (ClassId × FieldType) := kA.zipIdx.map (fun x => (E.2.1 x.2, x.1))
def wrP (c : Po) : Prop := match c with
  | .inl x => x.1 < 10
  | .inr o => o.1 < 32
def cvP (E : Ev) (c : Po) : va_E := match c with
  | .inl (k, n, .inl f) => .inl (E.2.1 k, n, .inl (fun j : Nat => Int32.ofInt (f j)))
  | .inl (k, n, .inr g) => .inl (E.2.1 k, n, .inr (.inr (.inr (.inr (fun j : Nat => g j)))))
  | .inr o => .inr o
/-- the addresses that the law's call may write -/
def Bs (E : Ev) : Nat → Prop := fun q => E.2.2.1.size ≤ q
def FrG (E : Ev) (H : Heap) : Prop := E.2.2.1.size ≤ H.size ∧ ∀ q : Nat, q < E.2.2.1.size → H[q]? = E.2.2.1[q]?
def Rel0 (E : Ev) (h : PH) (H : Heap) : Prop := ∀ (a : Nat) (c : Po), h a = some c → va_at E.1 clA (a, cvP E c) H ∧ ((wrP c ∧ Bs E a) ∨ (¬ wrP c ∧ ¬ Bs E a))
def own1 (h : PH) (own : Nat → Nat) (a : Nat) : PH := fun q => if own q = a then h q else none
def Rel (E : Ev) (hh : AH) (H : Heap) : Prop := FrG E H ∧ ∃ (h : PH) (own : Nat → Nat), Rel0 E h H ∧ (∀ (a : Nat) (c : Po), hh a = some (.inl c) → h a = some c ∧ own a = a) ∧ ∀ (a : Nat) (Φ : Nat × (PH → Prop)), hh a = some (.inr Φ) → (∃ fs, h a = some (.inr (Φ.1, fs))) ∧ own a = a ∧ Φ.2 (own1 h own a)
theorem Rel.plain {E : Ev} {hh : AH} {H : Heap} (h : Rel E hh H) {a : Nat} {c : Po} (ha : hh a = some (.inl c)) : va_at E.1 clA (a, cvP E c) H ∧ ((wrP c ∧ Bs E a) ∨ (¬ wrP c ∧ ¬ Bs E a)) := by
  obtain ⟨-, h0, own, h1, h2, -⟩ := h
  exact h1 a c (h2 a c ha).1
theorem Rel.lt {E : Ev} {hh : AH} {H : Heap} (h : Rel E hh H) {a : Nat} {c : Ao} (ha : hh a = some c) : a < H.size := by
  obtain ⟨-, h0, own, h1, h2, h3⟩ := h
  cases c with
  | inl c => exact (h1 a c (h2 a c ha).1).1.lt
  | inr Φ =>
    obtain ⟨⟨c, hc⟩, -⟩ := h3 a Φ ha
    exact (h1 a _ hc).1.lt
/-- one plain cell as the kit's list -/
theorem Rel.one {E : Ev} {hh : AH} {H : Heap} (h : Rel E hh H) {a : Nat} {c : Po} (ha : hh a = some (.inl c)) : va_P E.1 clA [(a, cvP E c)] H := by
  intro k q hk
  have hz : k < 1 := (List.getElem?_eq_some_iff.mp hk).1
  rw [show k = 0 by omega] at hk
  cases hk
  exact (h.plain ha).1
/-- all cells that may be written, as the kit's list -/
def enm (E : Ev) (h : PH) (n : Nat) (a : Nat) : Option (Nat × va_E) := if E.2.2.1.size ≤ a ∧ a < n then (h a).map (fun c => (a, cvP E c)) else none
def enL (E : Ev) (h : PH) (n : Nat) : va_W := (List.range n).filterMap (enm E h n)
theorem enL_mem {E : Ev} {h : PH} {n : Nat} {q : Nat × va_E} : q ∈ enL E h n ↔ ∃ c, h q.1 = some c ∧ q.2 = cvP E c ∧ Bs E q.1 ∧ q.1 < n := by
  unfold enL
  rw [List.mem_filterMap]
  constructor
  · rintro ⟨a, ha, hq⟩
    unfold enm at hq
    split at hq
    · rename_i hc
      cases hh : h a with
      | none => rw [hh] at hq; cases hq
      | some c =>
        rw [hh] at hq
        cases hq
        exact ⟨c, hh, rfl, hc.1, hc.2⟩
    · cases hq
  · rintro ⟨c, h1, h2, h3, h4⟩
    refine ⟨q.1, List.mem_range.mpr h4, ?_⟩
    unfold enm
    rw [if_pos ⟨h3, h4⟩, h1]
    show some (q.1, cvP E c) = some q
    rw [← h2]
theorem enL_nd {E : Ev} {h : PH} {n : Nat} : (enL E h n).Pairwise (fun x y => x.1 < y.1) := by
  unfold enL
  rw [List.pairwise_filterMap]
  refine List.Pairwise.imp ?_ (List.pairwise_lt_range (n := n))
  intro a b hab x hx y hy
  have hk : ∀ {a : Nat} {x : Nat × va_E}, enm E h n a = some x → x.1 = a := by
    intro a x hx
    unfold enm at hx
    split at hx
    · cases hh : h a with
      | none => rw [hh] at hx; cases hx
      | some c => rw [hh] at hx; cases hx; rfl
    · cases hx
  rw [hk hx, hk hy]
  exact hab
theorem enL_P {E : Ev} {h : PH} {H : Heap} (h1 : Rel0 E h H) : va_P E.1 clA (enL E h H.size) H := by
  intro k q hk
  obtain ⟨c, a1, a2, -, -⟩ := enL_mem.mp (List.mem_of_getElem? hk)
  have h2 := (h1 q.1 c a1).1
  obtain ⟨q1, q2⟩ := q
  dsimp only at a2 h2
  subst a2
  exact h2
theorem enL_D {E : Ev} {h : PH} {n : Nat} : va_D (Bs E) (enL E h n) := by
  refine ⟨fun i j p q hi hj hpq => ?_, fun k q hk => ?_⟩
  · have nd := enL_nd (E := E) (h := h) (n := n)
    rw [List.pairwise_iff_getElem] at nd
    obtain ⟨hi1, hi2⟩ := List.getElem?_eq_some_iff.mp hi
    obtain ⟨hj1, hj2⟩ := List.getElem?_eq_some_iff.mp hj
    rcases Nat.lt_trichotomy i j with hl | hl | hl
    · have := nd i j hi1 hj1 hl
      rw [hi2, hj2, hpq] at this
      exact absurd this (Nat.lt_irrefl _)
    · exact hl
    · have := nd j i hj1 hi1 hl
      rw [hi2, hj2, hpq] at this
      exact absurd this (Nat.lt_irrefl _)
  · obtain ⟨c, -, -, a3, -⟩ := enL_mem.mp (List.mem_of_getElem? hk)
    exact a3
theorem enL_at {E : Ev} {h : PH} {H : Heap} (h1 : Rel0 E h H) {a : Nat} {c : Po} (ha : h a = some c) (hb : Bs E a) : ∃ k : Nat, (enL E h H.size)[k]? = some (a, cvP E c) := by
  have : (a, cvP E c) ∈ enL E h H.size := enL_mem.mpr ⟨c, ha, rfl, hb, (h1 a c ha).1.lt⟩
  exact List.getElem?_of_mem this
def pset (h : PH) (a : Nat) (c : Po) : PH := fun q => if q = a then some c else h q
/-- back from the kit's list: one cell was changed -/
theorem Rel0.put {E : Ev} {h : PH} {H H1 : Heap} {locs : List Loc} (h1 : Rel0 E h H) (hG : FrG E H) {a k : Nat} {c c' : Po} (ha : h a = some c) (hb : Bs E a) (hk : (enL E h H.size)[k]? = some (a, cvP E c)) (hw : wrP c') (hP : va_P E.1 clA ((enL E h H.size).set k (a, cvP E c')) H1) (hS : va_S (Bs E) E.2.2.1 H1 locs) : Rel0 E (pset h a c') H1 := by
  have hkl : k < (enL E h H.size).length := (List.getElem?_eq_some_iff.mp hk).1
  intro b d hd
  unfold pset at hd
  split at hd
  · rename_i hba
    subst hba
    cases hd
    exact ⟨hP k (b, cvP E c') (by rw [List.getElem?_set_self hkl]), Or.inl ⟨hw, hb⟩⟩
  · rename_i hba
    obtain ⟨g1, g2⟩ := h1 b d hd
    rcases g2 with ⟨g2, g3⟩ | ⟨g2, g3⟩
    · obtain ⟨j, hj⟩ := enL_at h1 hd g3
      have hjk : j ≠ k := by
        intro e; subst e
        rw [hk] at hj
        exact hba (congrArg Prod.fst (Option.some.inj hj)).symm
      exact ⟨hP j (b, cvP E d) (by rw [List.getElem?_set_ne (fun e => hjk e.symm)]; exact hj), Or.inl ⟨g2, g3⟩⟩
    · refine ⟨g1.kept ?_, Or.inr ⟨g2, g3⟩⟩
      have hlt : b < E.2.2.1.size := Nat.lt_of_not_le g3
      show H1[b]? = H[b]?
      rw [hS.2.1 b hlt g3, hG.2 b hlt]
/-- back from the kit's list: one cell is new -/
theorem Rel0.new {E : Ev} {h : PH} {H H1 : Heap} {locs : List Loc} (h1 : Rel0 E h H) (hG : FrG E H) {a : Nat} {c : Po} (hw : wrP c) (hP : va_P E.1 clA (enL E h H.size ++ [(a, cvP E c)]) H1) (hD : va_D (Bs E) (enL E h H.size ++ [(a, cvP E c)])) (hS : va_S (Bs E) E.2.2.1 H1 locs) : h a = none ∧ Rel0 E (pset h a c) H1 := by
  have ha : Bs E a := hD.2 (enL E h H.size).length (a, cvP E c) (by simp)
  have hn : h a = none := by
    cases hc : h a with
    | none => rfl
    | some d =>
      obtain ⟨j, hj⟩ := enL_at h1 hc ha
      have hjl : j < (enL E h H.size).length := (List.getElem?_eq_some_iff.mp hj).1
      have := hD.1 j (enL E h H.size).length (a, cvP E d) (a, cvP E c) (by rw [List.getElem?_append_left hjl]; exact hj) (by simp) rfl
      omega
  refine ⟨hn, fun b d hd => ?_⟩
  unfold pset at hd
  split at hd
  · rename_i hba
    subst hba
    cases hd
    exact ⟨hP (enL E h H.size).length (b, cvP E c) (by simp), Or.inl ⟨hw, ha⟩⟩
  · rename_i hba
    obtain ⟨g1, g2⟩ := h1 b d hd
    rcases g2 with ⟨g2, g3⟩ | ⟨g2, g3⟩
    · obtain ⟨j, hj⟩ := enL_at h1 hd g3
      have hjl : j < (enL E h H.size).length := (List.getElem?_eq_some_iff.mp hj).1
      exact ⟨hP j (b, cvP E d) (by rw [List.getElem?_append_left hjl]; exact hj), Or.inl ⟨g2, g3⟩⟩
    · refine ⟨g1.kept ?_, Or.inr ⟨g2, g3⟩⟩
      have hlt : b < E.2.2.1.size := Nat.lt_of_not_le g3
      show H1[b]? = H[b]?
      rw [hS.2.1 b hlt g3, hG.2 b hlt]
theorem va_S.FrG {E : Ev} {H : Heap} {locs : List Loc} (h : va_S (Bs E) E.2.2.1 H locs) : FrG E H := ⟨h.1, fun q hq => h.2.1 q hq (Nat.not_le.mpr hq)⟩
/-- the same, of the abstract heap -/
theorem Rel.put {E : Ev} {hh : AH} {H : Heap} (R : Rel E hh H) {a : Nat} {c c' : Po} (ha : hh a = some (.inl c)) (hw : wrP c) (hw' : wrP c') :
    ∃ (ws : va_W) (k : Nat), ws[k]? = some (a, cvP E c) ∧ va_P E.1 clA ws H ∧ va_D (Bs E) ws ∧ ∀ (H1 : Heap) (locs : List Loc), va_P E.1 clA (ws.set k (a, cvP E c')) H1 → va_S (Bs E) E.2.2.1 H1 locs → Rel E (hset hh a (.inl c')) H1 := by
  obtain ⟨hG, h, own, h1, h2, h3⟩ := R
  have hb : Bs E a := by
    rcases (h1 a c (h2 a c ha).1).2 with g | g
    · exact g.2
    · exact absurd hw g.1
  obtain ⟨k, hk⟩ := enL_at h1 (h2 a c ha).1 hb
  refine ⟨enL E h H.size, k, hk, enL_P h1, enL_D, fun H1 locs hP hS => ⟨hS.FrG, pset h a c', own, h1.put hG (h2 a c ha).1 hb hk hw' hP hS, fun b d hd => ?_, fun b Φ hd => ?_⟩⟩
  · unfold hset at hd
    unfold pset
    by_cases hba : b = a
    · subst hba
      rw [if_pos rfl] at hd ⊢
      cases hd
      exact ⟨rfl, (h2 b c ha).2⟩
    · rw [if_neg hba] at hd ⊢
      exact h2 b d hd
  · unfold hset at hd
    by_cases hba : b = a
    · subst hba
      rw [if_pos rfl] at hd
      cases hd
    · rw [if_neg hba] at hd
      obtain ⟨⟨d, e1⟩, e2, e3⟩ := h3 b Φ hd
      refine ⟨⟨d, by unfold pset; rw [if_neg hba]; exact e1⟩, e2, ?_⟩
      have : own1 (pset h a c') own b = own1 h own b := by
        funext q
        unfold own1 pset
        by_cases hq : own q = b
        · rw [if_pos hq, if_pos hq, if_neg]
          rintro rfl
          exact hba (hq.symm.trans (h2 q c ha).2)
        · rw [if_neg hq, if_neg hq]
      rw [this]
      exact e3
theorem Rel.new {E : Ev} {hh : AH} {H : Heap} (R : Rel E hh H) :
    ∃ (ws : va_W), va_P E.1 clA ws H ∧ va_D (Bs E) ws ∧ ∀ (a : Nat) (c' : Po) (H1 : Heap) (locs : List Loc), wrP c' → va_P E.1 clA (ws ++ [(a, cvP E c')]) H1 → va_D (Bs E) (ws ++ [(a, cvP E c')]) → va_S (Bs E) E.2.2.1 H1 locs → hh a = none ∧ Rel E (hset hh a (.inl c')) H1 := by
  obtain ⟨hG, h, own, h1, h2, h3⟩ := R
  refine ⟨enL E h H.size, enL_P h1, enL_D, fun a c' H1 locs hw hP hD hS => ?_⟩
  obtain ⟨hn, h1'⟩ := h1.new hG hw hP hD hS
  have hna : hh a = none := by
    cases hc : hh a with
    | none => rfl
    | some d =>
      cases d with
      | inl d => rw [(h2 a d hc).1] at hn; cases hn
      | inr Φ => obtain ⟨⟨d, e⟩, -⟩ := h3 a Φ hc; rw [e] at hn; cases hn
  refine ⟨hna, hS.FrG, pset h a c', fun q => if q = a then a else own q, h1', fun b d hd => ?_, fun b Φ hd => ?_⟩
  · unfold hset at hd
    unfold pset
    by_cases hba : b = a
    · subst hba
      rw [if_pos rfl] at hd
      cases hd
      simp
    · rw [if_neg hba] at hd
      simp only [if_neg hba]
      exact h2 b d hd
  · unfold hset at hd
    by_cases hba : b = a
    · subst hba
      rw [if_pos rfl] at hd
      cases hd
    · rw [if_neg hba] at hd
      obtain ⟨⟨d, e1⟩, e2, e3⟩ := h3 b Φ hd
      refine ⟨⟨d, by unfold pset; rw [if_neg hba]; exact e1⟩, by simp only [if_neg hba]; exact e2, ?_⟩
      have : own1 (pset h a c') (fun q => if q = a then a else own q) b = own1 h own b := by
        funext q
        unfold own1 pset
        by_cases hq : q = a
        · subst hq
          have hne : ¬ q = b := fun e => hba e.symm
          simp [hn, hne]
        · simp only [if_neg hq]
      rw [this]
      exact e3
