/-! TREES: an entry put in, the first one taken out -/
def shU (j i : Nat) : Nat := if i < j then i else i + 1
def shD (j i : Nat) : Nat := if i < j then i else i - 1
/-- a new entry at place p, as the left child of the entry that was there -/
def insL (T : TT) (p : Nat) : TT := fun k i => match k with
  | 0 => if i = p then none else if i = p + 1 then some p else (T 0 (shD p i)).map (shU p)
  | 1 => if i = p then none else (T 1 (shD p i)).map (shU p)
  | 2 => if i = p then some (p + 1) else (T 2 (shD p i)).map (shU p)
  | 3 => (T 3 i).map (shU p)
  | 4 => if i = p then some 0 else T 4 (shD p i)
  | k => T k i
/-- a new entry at place p + 1, as the right child of the entry p -/
def insR (T : TT) (p : Nat) : TT := fun k i => match k with
  | 0 => if i = p + 1 then none else (T 0 (shD (p + 1) i)).map (shU (p + 1))
  | 1 => if i = p + 1 then none else if i = p then some (p + 1) else (T 1 (shD (p + 1) i)).map (shU (p + 1))
  | 2 => if i = p + 1 then some p else (T 2 (shD (p + 1) i)).map (shU (p + 1))
  | 3 => (T 3 i).map (shU (p + 1))
  | 4 => if i = p + 1 then some 0 else T 4 (shD (p + 1) i)
  | k => T k i
/-- the first entry, which has no left child, is taken out -/
def delT (T : TT) : TT := fun k i => match k with
  | 0 => if T 2 0 = some (i + 1) then (T 1 0).map (· - 1) else (T 0 (i + 1)).map (· - 1)
  | 2 => if T 1 0 = some (i + 1) then (T 2 0).map (· - 1) else (T 2 (i + 1)).map (· - 1)
  | 3 => if T 2 0 = none then (T 1 0).map (· - 1) else (T 3 i).map (· - 1)
  | 4 => T 4 (i + 1)
  | k => (T k (i + 1)).map (· - 1)
theorem shU_ne {p m : Nat} : shU p m ≠ p := by unfold shU; split <;> omega
theorem shDU {p m : Nat} : shD p (shU p m) = m := by grind [shU, shD]
theorem shU_p {p m : Nat} : shU p m = p + 1 ↔ m = p := by unfold shU; split <;> omega
theorem shU_pr {p m : Nat} : shU (p + 1) m = p ↔ m = p := by unfold shU; split <;> omega
theorem shU_ex {n p k : Nat} (hk : k < n + 1) (hp : p ≤ n) (e : k ≠ p) : ∃ m, k = shU p m ∧ m < n := ⟨shD p k, by grind [shU, shD], by grind [shU, shD]⟩
theorem Tsh_insL {n p : Nat} {T : TT} {lo hi : Nat → Nat} (S : Tsh n T lo hi) (hp : p < n) (h0 : T 0 p = none) : ∃ lo' hi' : Nat → Nat, Tsh (n + 1) (insL T p) lo' hi' := by
  obtain ⟨S0, S1, S2⟩ := S
  obtain ⟨a1, a2, a3, a4, a5, a6, a7, a8, a9⟩ := S2 p hp
  obtain ⟨lo', hi', L0, L1, H0, H1⟩ : ∃ lo' hi' : Nat → Nat, lo' p = p ∧ (∀ m, lo' (shU p m) = if p < lo m then lo m + 1 else lo m) ∧ hi' p = p + 1 ∧ ∀ m, hi' (shU p m) = if p < hi m then hi m + 1 else hi m :=
    ⟨fun i => if i = p then p else if p < lo (shD p i) then lo (shD p i) + 1 else lo (shD p i), fun i => if i = p then p + 1 else if p < hi (shD p i) then hi (shD p i) + 1 else hi (shD p i), if_pos rfl, fun m => by simp only [if_neg (shU_ne (p := p) (m := m)), shDU], if_pos rfl, fun m => by simp only [if_neg (shU_ne (p := p) (m := m)), shDU]⟩
  have E0 : ∀ m, insL T p 0 (shU p m) = if m = p then some p else (T 0 m).map (shU p) := fun m => by simp only [insL, if_neg (shU_ne (p := p) (m := m)), shDU, shU_p]
  have E1 : ∀ m, insL T p 1 (shU p m) = (T 1 m).map (shU p) := fun m => by simp only [insL, if_neg (shU_ne (p := p) (m := m)), shDU]
  have E2 : ∀ m, insL T p 2 (shU p m) = (T 2 m).map (shU p) := fun m => by simp only [insL, if_neg (shU_ne (p := p) (m := m)), shDU]
  have F0 : insL T p 0 p = none := by simp [insL]
  have F1 : insL T p 1 p = none := by simp [insL]
  have F2 : insL T p 2 p = some (p + 1) := by simp [insL]
  have E3 : insL T p 3 0 = (T 3 0).map (shU p) := rfl
  have u1 : shU p p = p + 1 := shU_p.2 rfl
  generalize insL T p = T' at *
  refine ⟨lo', hi', ?_, ?_, fun k hk => ?_⟩
  · intro h
    rw [E3, Option.map_eq_none_iff] at h
    have := S0 h; omega
  · intro r' h
    rw [E3, Option.map_eq_some_iff] at h
    obtain ⟨r, e, rfl⟩ := h
    obtain ⟨b1, b2, b3, b4⟩ := S1 r e
    rw [E2, L1, H1, b2, b3, b4]
    refine ⟨?_, rfl, ?_, ?_⟩
    · unfold shU; split <;> omega
    · split <;> omega
    · split <;> omega
  · by_cases e : k = p
    · subst e
      refine ⟨?_, ?_, ?_, ?_, ?_, ?_, ?_, ?_, ?_⟩
      · omega
      · omega
      · omega
      · intro _; exact L0
      · intro j h; rw [F0] at h; cases h
      · intro _; exact H0
      · intro j h; rw [F1] at h; cases h
      · intro h; rw [F2] at h; cases h
      · intro j h; rw [F2] at h; cases h
        refine ⟨by omega, Or.inl ?_⟩
        rw [← u1, E0, if_pos rfl]
    · obtain ⟨m, rfl, hm⟩ := shU_ex hk (Nat.le_of_lt hp) e
      obtain ⟨d1, d2, d3, d4, d5, d6, d7, d8, d9⟩ := S2 _ hm
      refine ⟨?_, ?_, ?_, ?_, ?_, ?_, ?_, ?_, ?_⟩
      · rw [L1]; unfold shU; split <;> split <;> omega
      · rw [H1]; unfold shU; split <;> split <;> omega
      · rw [H1]; split <;> omega
      · rw [E0, L1]; intro h
        split at h
        · cases h
        · rw [Option.map_eq_none_iff] at h
          have := d4 h
          unfold shU; split <;> split <;> omega
      · rw [E0]; intro j h
        split at h
        · rename_i e1
          subst e1
          cases h
          rw [F2, L0, L1, H0, u1]
          have := a4 h0
          refine ⟨by omega, rfl, ?_, rfl⟩
          rw [if_neg (by omega)]; omega
        · rw [Option.map_eq_some_iff] at h
          obtain ⟨q, hq, rfl⟩ := h
          obtain ⟨z1, z2, z3, z4⟩ := d5 q hq
          have z5 := S2 q (by omega)
          rw [E2, L1, L1, H1, z2, z3, z4]
          have z6 := z5.1
          have z7 := z5.2.1
          refine ⟨by unfold shU; split <;> split <;> omega, rfl, rfl, by unfold shU; split <;> split <;> omega⟩
      · rw [E1, H1]; intro h
        rw [Option.map_eq_none_iff] at h
        have := d6 h
        unfold shU; split <;> split <;> omega
      · rw [E1]; intro j h
        rw [Option.map_eq_some_iff] at h
        obtain ⟨q, hq, rfl⟩ := h
        obtain ⟨z1, z0, z2, z3, z4⟩ := d7 q hq
        have z5 := S2 q (by omega)
        rw [E2, L1, H1, H1, z2, z3, z4]
        have z6 := z5.1
        have z7 := z5.2.1
        refine ⟨by unfold shU; split <;> split <;> omega, by unfold shU; split <;> omega, rfl, by unfold shU; split <;> split <;> omega, rfl⟩
      · rw [E2, E3]; intro h
        rw [Option.map_eq_none_iff] at h
        rw [d8 h]; rfl
      · rw [E2]; intro j h
        rw [Option.map_eq_some_iff] at h
        obtain ⟨q, hq, rfl⟩ := h
        obtain ⟨z1, z2⟩ := d9 q hq
        rw [E0, E1]
        refine ⟨by unfold shU; split <;> omega, ?_⟩
        rcases z2 with z2 | z2
        · left
          rw [if_neg (by rintro rfl; rw [h0] at z2; cases z2), z2]; rfl
        · right
          rw [z2]; rfl
theorem Tsh_insR {n p : Nat} {T : TT} {lo hi : Nat → Nat} (S : Tsh n T lo hi) (hp : p < n) (h0 : T 1 p = none) : ∃ lo' hi' : Nat → Nat, Tsh (n + 1) (insR T p) lo' hi' := by
  obtain ⟨S0, S1, S2⟩ := S
  obtain ⟨a1, a2, a3, a4, a5, a6, a7, a8, a9⟩ := S2 p hp
  obtain ⟨lo', hi', L0, L1, H0, H1⟩ : ∃ lo' hi' : Nat → Nat, lo' (p + 1) = p + 1 ∧ (∀ m, lo' (shU (p + 1) m) = if p < lo m then lo m + 1 else lo m) ∧ hi' (p + 1) = p + 2 ∧ ∀ m, hi' (shU (p + 1) m) = if p < hi m then hi m + 1 else hi m :=
    ⟨fun i => if i = p + 1 then p + 1 else if p < lo (shD (p + 1) i) then lo (shD (p + 1) i) + 1 else lo (shD (p + 1) i), fun i => if i = p + 1 then p + 2 else if p < hi (shD (p + 1) i) then hi (shD (p + 1) i) + 1 else hi (shD (p + 1) i), if_pos rfl, fun m => by simp only [if_neg (shU_ne (p := p + 1) (m := m)), shDU], if_pos rfl, fun m => by simp only [if_neg (shU_ne (p := p + 1) (m := m)), shDU]⟩
  have E0 : ∀ m, insR T p 0 (shU (p + 1) m) = (T 0 m).map (shU (p + 1)) := fun m => by simp only [insR, if_neg (shU_ne (p := p + 1) (m := m)), shDU]
  have E1 : ∀ m, insR T p 1 (shU (p + 1) m) = if m = p then some (p + 1) else (T 1 m).map (shU (p + 1)) := fun m => by simp only [insR, if_neg (shU_ne (p := p + 1) (m := m)), shDU, shU_pr]
  have E2 : ∀ m, insR T p 2 (shU (p + 1) m) = (T 2 m).map (shU (p + 1)) := fun m => by simp only [insR, if_neg (shU_ne (p := p + 1) (m := m)), shDU]
  have F0 : insR T p 0 (p + 1) = none := by simp [insR]
  have F1 : insR T p 1 (p + 1) = none := by simp [insR]
  have F2 : insR T p 2 (p + 1) = some p := by simp [insR]
  have E3 : insR T p 3 0 = (T 3 0).map (shU (p + 1)) := rfl
  have u1 : shU (p + 1) p = p := shU_pr.2 rfl
  generalize insR T p = T' at *
  refine ⟨lo', hi', ?_, ?_, fun k hk => ?_⟩
  · intro h
    rw [E3, Option.map_eq_none_iff] at h
    have := S0 h; omega
  · intro r' h
    rw [E3, Option.map_eq_some_iff] at h
    obtain ⟨r, e, rfl⟩ := h
    obtain ⟨b1, b2, b3, b4⟩ := S1 r e
    rw [E2, L1, H1, b2, b3, b4]
    refine ⟨?_, rfl, ?_, ?_⟩
    · unfold shU; split <;> omega
    · split <;> omega
    · split <;> omega
  · by_cases e : k = p + 1
    · subst e
      refine ⟨?_, ?_, ?_, ?_, ?_, ?_, ?_, ?_, ?_⟩
      · omega
      · omega
      · omega
      · intro _; exact L0
      · intro j h; rw [F0] at h; cases h
      · intro _; exact H0
      · intro j h; rw [F1] at h; cases h
      · intro h; rw [F2] at h; cases h
      · intro j h; rw [F2] at h; cases h
        refine ⟨by omega, Or.inr ?_⟩
        have := E1 p
        rw [u1, if_pos rfl] at this
        exact this
    · obtain ⟨m, rfl, hm⟩ := shU_ex hk (by omega) e
      obtain ⟨d1, d2, d3, d4, d5, d6, d7, d8, d9⟩ := S2 _ hm
      refine ⟨?_, ?_, ?_, ?_, ?_, ?_, ?_, ?_, ?_⟩
      · rw [L1]; unfold shU; split <;> split <;> omega
      · rw [H1]; unfold shU; split <;> split <;> omega
      · rw [H1]; split <;> omega
      · rw [E0, L1]; intro h
        rw [Option.map_eq_none_iff] at h
        have := d4 h
        unfold shU; split <;> split <;> omega
      · rw [E0]; intro j h
        rw [Option.map_eq_some_iff] at h
        obtain ⟨q, hq, rfl⟩ := h
        obtain ⟨z1, z2, z3, z4⟩ := d5 q hq
        have z5 := S2 q (by omega)
        rw [E2, L1, L1, H1, z2, z3, z4]
        have z6 := z5.1
        have z7 := z5.2.1
        refine ⟨by unfold shU; split <;> split <;> omega, rfl, rfl, by unfold shU; split <;> split <;> omega⟩
      · rw [E1, H1]; intro h
        split at h
        · cases h
        · rw [Option.map_eq_none_iff] at h
          have := d6 h
          unfold shU; split <;> split <;> omega
      · rw [E1]; intro j h
        split at h
        · rename_i e1
          subst e1
          cases h
          rw [F2, L0, H0, H1, u1]
          have := a6 h0
          refine ⟨by omega, by omega, rfl, rfl, ?_⟩
          rw [if_pos (by omega)]; omega
        · rw [Option.map_eq_some_iff] at h
          obtain ⟨q, hq, rfl⟩ := h
          obtain ⟨z1, z0, z2, z3, z4⟩ := d7 q hq
          have z5 := S2 q (by omega)
          rw [E2, L1, H1, H1, z2, z3, z4]
          have z6 := z5.1
          have z7 := z5.2.1
          refine ⟨by unfold shU; split <;> split <;> omega, by unfold shU; split <;> omega, rfl, by unfold shU; split <;> split <;> omega, rfl⟩
      · rw [E2, E3]; intro h
        rw [Option.map_eq_none_iff] at h
        rw [d8 h]; rfl
      · rw [E2]; intro j h
        rw [Option.map_eq_some_iff] at h
        obtain ⟨q, hq, rfl⟩ := h
        obtain ⟨z1, z2⟩ := d9 q hq
        rw [E0, E1]
        refine ⟨by unfold shU; split <;> omega, ?_⟩
        rcases z2 with z2 | z2
        · left
          rw [z2]; rfl
        · right
          rw [if_neg (by rintro rfl; rw [h0] at z2; cases z2), z2]; rfl
theorem pm1 {o : Option Nat} : o.map (· - 1) = none ↔ o = none := Option.map_eq_none_iff
theorem Tsh_del {n : Nat} {T : TT} {lo hi : Nat → Nat} (S : Tsh (n + 1) T lo hi) (h0 : T 0 0 = none) : Tsh n (delT T) (fun i => lo (i + 1) - 1) (fun i => hi (i + 1) - 1) := by
  obtain ⟨S0, S1, S2⟩ := S
  obtain ⟨a1, a2, a3, a4, a5, a6, a7, a8, a9⟩ := S2 0 (by omega)
  have z0 : ∀ j, T 2 0 = some j → 0 < j ∧ j < n + 1 ∧ T 0 j = some 0 ∧ lo j = 0 := fun j hj => by
    obtain ⟨z1, z2⟩ := a9 j hj
    obtain ⟨d1, d2, d3, d4, d5, d6, d7, d8, d9⟩ := S2 _ z1
    rcases z2 with z2 | z2
    · have := d5 0 z2
      exact ⟨by omega, z1, z2, by omega⟩
    · have := d7 0 z2; omega
  refine ⟨?_, ?_, fun k hk => ?_⟩
  · simp only [delT]
    intro h
    split at h
    · rename_i e
      rw [pm1] at h
      have := a6 h
      have := S1 0 (a8 e)
      omega
    · rw [pm1] at h
      have := S0 h; omega
  · simp only [delT]
    intro r' h
    split at h
    · rename_i e
      rw [Option.map_eq_some_iff] at h
      obtain ⟨r, e1, rfl⟩ := h
      have := S1 0 (a8 e)
      obtain ⟨b1, b2, b3, b4, b5⟩ := a7 r e1
      rw [show r - 1 + 1 = r by omega, if_pos e1, e]
      exact ⟨by omega, rfl, by omega, by omega⟩
    · rename_i e
      rw [Option.map_eq_some_iff] at h
      obtain ⟨r, e1, rfl⟩ := h
      obtain ⟨b1, b2, b3, b4⟩ := S1 r e1
      have hr : r ≠ 0 := by rintro rfl; exact e b2
      rw [show r - 1 + 1 = r by omega]
      refine ⟨by omega, ?_, by omega, by omega⟩
      rw [if_neg, b2]
      · rfl
      · intro e2
        have := (a7 r e2).2.2.1
        rw [b2] at this; cases this
  · obtain ⟨d1, d2, d3, d4, d5, d6, d7, d8, d9⟩ := S2 (k + 1) (by omega)
    refine ⟨by dsimp only; omega, by dsimp only; omega, by dsimp only; omega, ?_, ?_, ?_, ?_, ?_, ?_⟩
    · simp only [delT]
      intro h
      split at h
      · rename_i e
        rw [pm1] at h
        have := a6 h
        obtain ⟨z1, z2, z3, z4⟩ := z0 _ e
        obtain ⟨y1, y2, y3, y4⟩ := d5 0 z3
        omega
      · rw [pm1] at h
        have := d4 h; omega
    · simp only [delT]
      intro j h
      split at h
      · rename_i e
        rw [Option.map_eq_some_iff] at h
        obtain ⟨q, hq, rfl⟩ := h
        obtain ⟨z1, z2, z3, z4⟩ := z0 _ e
        obtain ⟨b1, b2, b3, b4, b5⟩ := a7 q hq
        obtain ⟨y1, y2, y3, y4⟩ := d5 0 z3
        have := S2 q b2
        have := this.2.1
        rw [show q - 1 + 1 = q by omega, if_pos hq, e]
        exact ⟨by omega, rfl, by omega, by omega⟩
      · rename_i e
        rw [Option.map_eq_some_iff] at h
        obtain ⟨q, hq, rfl⟩ := h
        obtain ⟨y1, y2, y3, y4⟩ := d5 q hq
        have hq0 : q ≠ 0 := by rintro rfl; exact e y2
        rw [show q - 1 + 1 = q by omega, if_neg, y2]
        · exact ⟨by omega, rfl, by omega, by omega⟩
        · intro e2
          have := (a7 q e2).2.2.1
          rw [y2] at this; cases this
    · simp only [delT]
      intro h
      rw [pm1] at h
      have := d6 h; omega
    · simp only [delT]
      intro j h
      rw [Option.map_eq_some_iff] at h
      obtain ⟨q, hq, rfl⟩ := h
      obtain ⟨y1, y2, y3, y4, y5⟩ := d7 q hq
      rw [show q - 1 + 1 = q by omega, if_neg, y3]
      · exact ⟨by omega, by omega, rfl, by omega, by omega⟩
      · intro e2
        have := (a7 q e2).2.2.1
        rw [y3] at this; cases this
    · simp only [delT]
      intro h
      split at h
      · rename_i e
        rw [pm1] at h
        rw [if_pos h, e]; rfl
      · rename_i e
        rw [pm1] at h
        have y := d8 h
        have : T 2 0 ≠ none := by
          intro e2
          have := a8 e2
          rw [y] at this; cases this
        rw [if_neg this, y]; rfl
    · simp only [delT]
      intro j h
      split at h
      · rename_i e
        rw [Option.map_eq_some_iff] at h
        obtain ⟨q, hq, rfl⟩ := h
        obtain ⟨z1, z2, z3, z4⟩ := z0 _ hq
        rw [show q - 1 + 1 = q by omega, if_pos hq, e]
        exact ⟨by omega, Or.inl rfl⟩
      · rename_i e
        rw [Option.map_eq_some_iff] at h
        obtain ⟨q, hq, rfl⟩ := h
        obtain ⟨y1, y2⟩ := d9 q hq
        have hq0 : q ≠ 0 := by
          rintro rfl
          rcases y2 with y2 | y2
          · rw [h0] at y2; cases y2
          · exact e y2
        rw [show q - 1 + 1 = q by omega]
        refine ⟨by omega, ?_⟩
        rcases y2 with y2 | y2
        · left
          rw [if_neg, y2]
          · rfl
          · intro e2
            have := (z0 _ e2).2.2.1
            rw [y2] at this; cases this
        · right
          rw [y2]; rfl
