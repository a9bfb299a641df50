/-! FOUNDATION 5: composites made of composites -/
/-- plain cells p are what hh says; each of them belongs to a cell of hh -/
def RelP (hh : AH) (p : PH) : Prop := ∃ own : Nat → Nat, (∀ (a : Nat) (c : Po), hh a = some (.inl c) → p a = some c ∧ own a = a) ∧ (∀ (a : Nat) (Φ : Nat × (PH → Prop)), hh a = some (.inr Φ) → (∃ fs, p a = some (.inr (Φ.1, fs))) ∧ own a = a ∧ Φ.2 (own1 p own a)) ∧ ∀ q, p q ≠ none → hh (own q) ≠ none
def fold (Ψ : AH → Prop) : PH → Prop := fun p => ∃ hh : AH, Ψ hh ∧ RelP hh p
/-- h, with the cells of hh for the one at a -/
def ovl (h : AH) (a : Nat) (hh : AH) : AH := fun q => match hh q with
  | some c => some c
  | none => if q = a then none else h q
theorem ovl_in {h hh : AH} {a q : Nat} {c : Ao} (e : hh q = some c) : ovl h a hh q = some c := by unfold ovl; rw [e]
theorem ovl_out {h hh : AH} {a q : Nat} (e : hh q = none) (n : q ≠ a) : ovl h a hh q = h q := by unfold ovl; rw [e]; exact if_neg n
theorem ovl_set {h hh : AH} {a q : Nat} {c : Ao} : hset (ovl h a hh) q c = ovl h a (hset hh q c) := by
  funext x
  unfold hset ovl
  by_cases e : x = q
  · simp only [if_pos e]
  · simp only [if_neg e]
theorem Rel.norm {E : Ev} {hh : AH} {H : Heap} (R : Rel E hh H) : FrG E H ∧ ∃ (h : PH) (own : Nat → Nat), (∀ x, own (own x) = own x) ∧ Rel0 E h H ∧ (∀ (a : Nat) (c : Po), hh a = some (.inl c) → h a = some c ∧ own a = a) ∧ ∀ (a : Nat) (Φ : Nat × (PH → Prop)), hh a = some (.inr Φ) → (∃ fs, h a = some (.inr (Φ.1, fs))) ∧ own a = a ∧ Φ.2 (own1 h own a) := by
  obtain ⟨hG, h, own, h1, h2, h3⟩ := R
  have hN : ∀ a, own a = a → (fun x => if own (own x) = own x then own x else x) a = a := fun a e => by
    dsimp only
    rw [e, if_pos e]
  refine ⟨hG, h, fun x => if own (own x) = own x then own x else x, fun x => ?_, h1, fun a c ha => ⟨(h2 a c ha).1, hN a (h2 a c ha).2⟩, fun a Φ ha => ⟨(h3 a Φ ha).1, hN a (h3 a Φ ha).2.1, ?_⟩⟩
  · by_cases e : own (own x) = own x
    · simp only [e, if_true]
    · simp only [if_neg e]
  · have e : own1 h (fun x => if own (own x) = own x then own x else x) a = own1 h own a := by
      have ea := (h3 a Φ ha).2.1
      funext x
      unfold own1
      by_cases e : own (own x) = own x
      · simp only [if_pos e]
      · have n1 : own x ≠ a := fun z => e (by rw [z, ea])
        have n2 : x ≠ a := fun z => e (by rw [z, ea, ea])
        simp only [if_neg e, if_neg n1, if_neg n2]
    rw [e]
    exact (h3 a Φ ha).2.2
theorem Rel.opened {E : Ev} {h : AH} {H : Heap} (R : Rel E h H) {a : Nat} {t : Nat} {Ψ : AH → Prop} (ha : h a = some (oC t (fold Ψ))) : ∃ hh : AH, Ψ hh ∧ (∀ q, q ≠ a → hh q ≠ none → h q = none) ∧ Rel E (ovl h a hh) H := by
  obtain ⟨hG, p, own, hi, h1, h2, h3⟩ := R.norm
  obtain ⟨-, ea, hh, hΨ, own2, g1, g2, g3⟩ := h3 a _ ha
  have in1 : ∀ {q : Nat} {c : Po}, own1 p own a q = some c → own q = a ∧ p q = some c := by
    intro q c e
    unfold own1 at e
    by_cases z : own q = a
    · rw [if_pos z] at e; exact ⟨z, e⟩
    · rw [if_neg z] at e; cases e
  have hd : ∀ q, hh q ≠ none → own q = a ∧ ∃ c, p q = some c := by
    intro q hq
    cases e : hh q with
    | none => exact absurd e hq
    | some c =>
      cases c with
      | inl c => have z := in1 (g1 q c e).1; exact ⟨z.1, c, z.2⟩
      | inr Φ => obtain ⟨⟨c, z⟩, -⟩ := g2 q Φ e; exact ⟨(in1 z).1, _, (in1 z).2⟩
  have hown : ∀ q, h q ≠ none → own q = q := by
    intro q hq
    cases e : h q with
    | none => exact absurd e hq
    | some c =>
      cases c with
      | inl c => exact (h2 q c e).2
      | inr Φ => exact (h3 q Φ e).2.1
  refine ⟨hh, hΨ, fun q n hq => ?_, hG, p, fun x => if own x = a then own2 x else own x, h1, fun q c hq => ?_, fun q Φ hq => ?_⟩
  · refine Classical.byContradiction (fun z => n ?_)
    rw [← hown q z]; exact (hd q hq).1
  · cases e : hh q with
    | some c' =>
      rw [ovl_in e] at hq
      cases hq
      have z := g1 q c e
      have y := in1 z.1
      exact ⟨y.2, by dsimp only; rw [if_pos y.1]; exact z.2⟩
    | none =>
      have n : q ≠ a := by
        rintro rfl
        unfold ovl at hq; rw [e] at hq; simp at hq
      rw [ovl_out e n] at hq
      have z := h2 q c hq
      exact ⟨z.1, by dsimp only; rw [if_neg (by rw [z.2]; exact n)]; exact z.2⟩
  · cases e : hh q with
    | some c' =>
      rw [ovl_in e] at hq
      cases hq
      obtain ⟨⟨c, z1⟩, z2, z3⟩ := g2 q Φ e
      have y := in1 z1
      refine ⟨⟨c, y.2⟩, by dsimp only; rw [if_pos y.1]; exact z2, ?_⟩
      have : own1 p (fun x => if own x = a then own2 x else own x) q = own1 (own1 p own a) own2 q := by
        funext x
        unfold own1
        by_cases ex : own x = a
        · simp only [if_pos ex]
        · have nx : own x ≠ q := by
            intro w
            have : own q = q := by rw [← w, hi]
            exact ex (w.trans (this.symm.trans y.1))
          simp only [if_neg ex, if_neg nx, ite_self]
      rw [this]
      exact z3
    | none =>
      have n : q ≠ a := by
        rintro rfl
        unfold ovl at hq; rw [e] at hq; simp at hq
      rw [ovl_out e n] at hq
      obtain ⟨z1, z2, z3⟩ := h3 q Φ hq
      refine ⟨z1, by dsimp only; rw [if_neg (by rw [z2]; exact n)]; exact z2, ?_⟩
      have : own1 p (fun x => if own x = a then own2 x else own x) q = own1 p own q := by
        funext x
        unfold own1
        by_cases ex : own x = a
        · simp only [if_pos ex]
          have nx : own x ≠ q := by rw [ex]; exact fun w => n w.symm
          rw [if_neg nx]
          by_cases ew : own2 x = q
          · rw [if_pos ew]
            cases ep : p x with
            | none => rfl
            | some c =>
              have := g3 x (by unfold own1; rw [if_pos ex, ep]; simp)
              rw [ew] at this
              exact absurd e this
          · rw [if_neg ew]
        · simp only [if_neg ex]
      rw [this]
      exact z3
theorem Rel.closed {E : Ev} {h hh : AH} {H : Heap} {a : Nat} (R : Rel E (ovl h a hh) H) {t : Nat} {fs : List Value} {Ψ : AH → Prop} (hΨ : Ψ hh) (ha : hh a = some (oO t fs)) (hd : ∀ q, q ≠ a → hh q ≠ none → h q = none) : Rel E (hset h a (oC t (fold Ψ))) H := by
  have hc := ha
  have ha : hh a ≠ none := by rw [hc]; simp
  obtain ⟨hG, p, own, h1, h2, h3⟩ := R
  have hin : ∀ q, hh q ≠ none → own q = q ∧ ∃ c, p q = some c := by
    intro q hq
    cases e : hh q with
    | none => exact absurd e hq
    | some c =>
      cases c with
      | inl c => exact ⟨(h2 q c (ovl_in e)).2, c, (h2 q c (ovl_in e)).1⟩
      | inr Φ =>
        obtain ⟨⟨fs, z⟩, z2, -⟩ := h3 q Φ (ovl_in e)
        exact ⟨z2, _, z⟩
  have hq' : ∀ x, (if hh (own x) = none then own x else a) = a ↔ hh (own x) ≠ none := by
    intro x
    by_cases e : hh (own x) = none
    · rw [if_pos e]
      exact ⟨fun z => by rw [z] at e; exact absurd e ha, fun z => absurd e z⟩
    · rw [if_neg e]; exact ⟨fun _ => e, fun _ => rfl⟩
  refine ⟨hG, p, fun x => if hh (own x) = none then own x else a, h1, fun q c hq => ?_, fun q Φ hq => ?_⟩
  · unfold hset at hq
    by_cases n : q = a
    · rw [if_pos n] at hq; cases hq
    · rw [if_neg n] at hq
      have e : hh q = none := by
        cases e : hh q with
        | none => rfl
        | some c' => rw [hd q n (by rw [e]; simp)] at hq; cases hq
      have z := h2 q c (by rw [ovl_out e n]; exact hq)
      exact ⟨z.1, by dsimp only; rw [z.2, if_pos e]⟩
  · unfold hset at hq
    by_cases n : q = a
    · rw [if_pos n] at hq
      cases hq
      subst n
      obtain ⟨e1, -⟩ := hin q ha
      have e2 := (h2 q _ (ovl_in hc)).1
      refine ⟨⟨_, e2⟩, by dsimp only; rw [e1, if_neg ha], hh, hΨ, own, fun x c hx => ?_, fun x Φ' hx => ?_, fun x hx => ?_⟩
      · have z := h2 x c (ovl_in hx)
        refine ⟨?_, z.2⟩
        unfold own1
        rw [if_pos ((hq' x).2 (by rw [z.2, hx]; simp))]
        exact z.1
      · obtain ⟨z1, z2, z3⟩ := h3 x Φ' (ovl_in hx)
        refine ⟨?_, z2, ?_⟩
        · obtain ⟨c, z1⟩ := z1
          refine ⟨c, ?_⟩
          unfold own1
          rw [if_pos ((hq' x).2 (by rw [z2, hx]; simp))]
          exact z1
        · have : own1 (own1 p (fun x => if hh (own x) = none then own x else q) q) own x = own1 p own x := by
            funext y
            unfold own1
            by_cases ey : own y = x
            · have : hh (own y) ≠ none := by rw [ey, hx]; simp
              rw [if_pos ey, if_pos ((hq' y).2 this), if_pos ey]
            · rw [if_neg ey, if_neg ey]
          rw [this]
          exact z3
      · refine (hq' x).1 (Classical.byContradiction (fun z => hx ?_))
        unfold own1
        rw [if_neg z]
    · rw [if_neg n] at hq
      have e : hh q = none := by
        cases e : hh q with
        | none => rfl
        | some c' => rw [hd q n (by rw [e]; simp)] at hq; cases hq
      obtain ⟨z1, z2, z3⟩ := h3 q Φ (by rw [ovl_out e n]; exact hq)
      refine ⟨z1, by dsimp only; rw [z2, if_pos e], ?_⟩
      have : own1 p (fun x => if hh (own x) = none then own x else a) q = own1 p own q := by
        funext x
        unfold own1
        by_cases ex : hh (own x) = none
        · simp only [if_pos ex]
        · have nx : own x ≠ q := fun w => ex (by rw [w]; exact e)
          have na : a ≠ q := fun w => n w.symm
          simp only [if_neg ex, if_neg nx, if_neg na]
      rw [this]
      exact z3
section Fd5
variable {E : Ev} {M : Mt} {d b pc : Nat} {ls : List (Option Value)} {st : List Value} {h : AH} {Q : Value → AH → Prop} {X : Nat → AH → Prop}
/-- a composite's own cells -/
theorem V_open {a : Nat} {t : Nat} {Ψ : AH → Prop} (ha : h a = some (oC t (fold Ψ))) (k : ∀ hh : AH, Ψ hh → (∀ q, q ≠ a → hh q ≠ none → h q = none) → V E M d b pc ls st (ovl h a hh) Q X) : V E M d b pc ls st h Q X := by
  intro p l e R s m args below meth c H locs cells slots mc ms arr C hS hR hL h1 h2 h3 h4 h5 h6
  obtain ⟨hh, z1, z2, z3⟩ := hR.opened ha
  exact k hh z1 z2 p l e R s m args below meth c H locs cells slots mc ms arr C hS z3 hL h1 h2 h3 h4 h5 h6
theorem V_close {a t : Nat} {hh : AH} {fs : List Value} (Ψ : AH → Prop) (hΨ : Ψ hh) (haa : hh a = some (oO t fs)) (hd : ∀ q, q ≠ a → hh q ≠ none → h q = none) (k : V E M d b pc ls st (hset h a (oC t (fold Ψ))) Q X) : V E M d b pc ls st (ovl h a hh) Q X := by
  intro p l e R s m args below meth c H locs cells slots mc ms arr C hS hR hL h1 h2 h3 h4 h5 h6
  exact k p l e R s m args below meth c H locs cells slots mc ms arr C hS (hR.closed hΨ haa hd) hL h1 h2 h3 h4 h5 h6
end Fd5
