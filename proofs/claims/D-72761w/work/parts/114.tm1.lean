/-! TREES: shapes of a red-black tree over the places 0 .. n - 1 of its entries in their order; T 0, T 1, T 2: left, right, parent; T 3 0: the root; T 4: black (some) or red -/
abbrev TT : Type := Nat → Nat → Option Nat
def tup (T : TT) (k i : Nat) (o : Option Nat) : TT := fun k' i' => if k' = k ∧ i' = i then o else T k' i'
theorem tup_eq {T : TT} {k i : Nat} {o : Option Nat} : tup T k i o k i = o := if_pos ⟨rfl, rfl⟩
theorem tup_nk {T : TT} {k i k' i' : Nat} {o : Option Nat} (n : k' ≠ k) : tup T k i o k' i' = T k' i' := if_neg (fun e => n e.1)
theorem tup_ni {T : TT} {k i k' i' : Nat} {o : Option Nat} (n : i' ≠ i) : tup T k i o k' i' = T k' i' := if_neg (fun e => n e.2)
/-- the places that a subtree spans: from lo on, up to ahead of hi -/
def Tn (n : Nat) (T : TT) (lo hi : Nat → Nat) (i : Nat) : Prop := lo i ≤ i ∧ i < hi i ∧ hi i ≤ n ∧
  (T 0 i = none → lo i = i) ∧ (∀ j, T 0 i = some j → j < i ∧ T 2 j = some i ∧ lo j = lo i ∧ hi j = i) ∧
  (T 1 i = none → hi i = i + 1) ∧ (∀ j, T 1 i = some j → i < j ∧ j < n ∧ T 2 j = some i ∧ lo j = i + 1 ∧ hi j = hi i) ∧
  (T 2 i = none → T 3 0 = some i) ∧ (∀ j, T 2 i = some j → j < n ∧ (T 0 j = some i ∨ T 1 j = some i))
def Tsh (n : Nat) (T : TT) (lo hi : Nat → Nat) : Prop :=
  (T 3 0 = none → n = 0) ∧ (∀ r, T 3 0 = some r → r < n ∧ T 2 r = none ∧ lo r = 0 ∧ hi r = n) ∧ ∀ i, i < n → Tn n T lo hi i
def rotL (T : TT) (i r : Nat) : TT := fun k j => match k with
  | 0 => if j = r then some i else if T 2 i = some j ∧ T 0 j = some i then some r else T 0 j
  | 1 => if j = i then T 0 r else if T 2 i = some j ∧ T 0 j ≠ some i then some r else T 1 j
  | 2 => if j = i then some r else if j = r then T 2 i else if T 0 r = some j then some i else T 2 j
  | 3 => if T 2 i = none ∧ j = 0 then some r else T 3 j
  | k => T k j
theorem Tsh_rotL {n i r : Nat} {T : TT} {lo hi : Nat → Nat} (S : Tsh n T lo hi) (hi' : i < n) (hr : T 1 i = some r) :
    Tsh n (rotL T i r) (fun k => if k = r then lo i else lo k) (fun k => if k = i then r else hi k) := by
  obtain ⟨S0, S1, S2⟩ := S
  obtain ⟨a1, a2, a3, a4, a5, a6, a7, a8, a9⟩ := S2 i hi'
  obtain ⟨b1, b2, b3, b4, b5⟩ := a7 r hr
  obtain ⟨c1, c2, c3, c4, c5, c6, c7, c8, c9⟩ := S2 r b2
  have hq : ∀ j, T 0 r = some j → lo j ≤ j ∧ j < hi j := fun j hj => by
    have := c5 j hj
    have := S2 j (by omega)
    exact ⟨this.1, this.2.1⟩
  refine ⟨?_, ?_, fun k hk => ?_⟩
  · simp only [rotL]
    intro h
    split at h
    · cases h
    · exact S0 h
  · simp only [rotL]
    intro r' h
    split at h
    · rename_i hp
      cases h
      have := S1 i (a8 hp.1)
      grind
    · rename_i hp
      have := S1 r' h
      grind
  · obtain ⟨d1, d2, d3, d4, d5, d6, d7, d8, d9⟩ := S2 k hk
    refine ⟨?_, ?_, ?_, ?_, ?_, ?_, ?_, ?_, ?_⟩
    · clear S0 S1 S2 c4 c6 c7 c8 c9 d4 d5 d6 d7 d8 d9
      dsimp only; split <;> omega
    · clear S0 S1 S2 c4 c6 c7 c8 c9 d4 d5 d6 d7 d8 d9
      dsimp only; split <;> omega
    · clear S0 S1 S2 c4 c6 c7 c8 c9 d4 d5 d6 d7 d8 d9
      dsimp only; split <;> omega
    · clear S0 S1 S2
      simp only [rotL]; grind
    · clear S0 S1 S2
      simp only [rotL]; grind
    · clear S0 S1 S2
      simp only [rotL]; grind
    · clear S0 S1 S2
      simp only [rotL]; grind
    · clear S0 S1 S2
      simp only [rotL]; grind
    · clear S0 S1 S2
      simp only [rotL]; grind
def rotR (T : TT) (i r : Nat) : TT := fun k j => match k with
  | 0 => if j = i then T 1 r else if T 2 i = some j ∧ T 1 j ≠ some i then some r else T 0 j
  | 1 => if j = r then some i else if T 2 i = some j ∧ T 1 j = some i then some r else T 1 j
  | 2 => if j = i then some r else if j = r then T 2 i else if T 1 r = some j then some i else T 2 j
  | 3 => if T 2 i = none ∧ j = 0 then some r else T 3 j
  | k => T k j
theorem Tsh_rotR {n i r : Nat} {T : TT} {lo hi : Nat → Nat} (S : Tsh n T lo hi) (hi' : i < n) (hr : T 0 i = some r) :
    Tsh n (rotR T i r) (fun k => if k = i then r + 1 else lo k) (fun k => if k = r then hi i else hi k) := by
  obtain ⟨S0, S1, S2⟩ := S
  obtain ⟨a1, a2, a3, a4, a5, a6, a7, a8, a9⟩ := S2 i hi'
  obtain ⟨b1, b3, b4, b5⟩ := a5 r hr
  have b2 : r < n := by omega
  obtain ⟨c1, c2, c3, c4, c5, c6, c7, c8, c9⟩ := S2 r b2
  have hq : ∀ j, T 1 r = some j → lo j ≤ j ∧ j < hi j := fun j hj => by
    have := c7 j hj
    have := S2 j (by omega)
    exact ⟨this.1, this.2.1⟩
  refine ⟨?_, ?_, fun k hk => ?_⟩
  · simp only [rotR]
    intro h
    split at h
    · cases h
    · exact S0 h
  · simp only [rotR]
    intro r' h
    split at h
    · rename_i hp
      cases h
      have := S1 i (a8 hp.1)
      grind
    · rename_i hp
      have := S1 r' h
      grind
  · obtain ⟨d1, d2, d3, d4, d5, d6, d7, d8, d9⟩ := S2 k hk
    refine ⟨?_, ?_, ?_, ?_, ?_, ?_, ?_, ?_, ?_⟩
    · clear S0 S1 S2 c4 c6 c7 c8 c9 d4 d5 d6 d7 d8 d9
      dsimp only; split <;> omega
    · clear S0 S1 S2 c4 c6 c7 c8 c9 d4 d5 d6 d7 d8 d9
      dsimp only; split <;> omega
    · clear S0 S1 S2 c4 c6 c7 c8 c9 d4 d5 d6 d7 d8 d9
      dsimp only; split <;> omega
    · clear S0 S1 S2
      simp only [rotR]; grind
    · clear S0 S1 S2
      simp only [rotR]; grind
    · clear S0 S1 S2
      simp only [rotR]; grind
    · clear S0 S1 S2
      simp only [rotR]; grind
    · clear S0 S1 S2
      simp only [rotR]; grind
    · clear S0 S1 S2
      simp only [rotR]; grind
