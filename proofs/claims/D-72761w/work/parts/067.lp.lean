/-! LOOPS, and chains of writes -/
/-- a loop that counts up from a to b -/
theorem loop_upI {P : Int → Prop} (a b : Int) (step : ∀ i, a ≤ i → i ≤ b → (i < b → P (i + 1)) → P i) : a ≤ b → P a := by
  intro hab
  have h : ∀ (n : Nat) (i : Int), a ≤ i → i ≤ b → (b - i).toNat = n → P i := by
    intro n
    induction n with
    | zero => intro i h1 h2 h3; exact step i h1 h2 (fun h => absurd h3 (by omega))
    | succ n ih => intro i h1 h2 h3; exact step i h1 h2 (fun h => ih (i + 1) (by omega) (by omega) (by omega))
  exact h (b - a).toNat a (Int.le_refl _) hab rfl
/-- a loop by a measure -/
theorem loop_mu {σ : Type} (μ : σ → Nat) {P : σ → Prop} (step : ∀ s, (∀ s', μ s' < μ s → P s') → P s) : ∀ s, P s := by
  intro s
  have h : ∀ (n : Nat) (s : σ), μ s < n → P s := by
    intro n
    induction n with
    | zero => intro s h; exact absurd h (Nat.not_lt_zero _)
    | succ n ih => intro s h; exact step s (fun s' h' => ih s' (by omega))
  exact h (μ s + 1) s (Nat.lt_succ_self _)
theorem V_st {E : Ev} {M : Mt} {d b pc am : Nat} {B : Nat → Nat} {ls : List (Option Value)} {st : List Value} {h0 : AH} {Q : Value → AH → Prop} {X : Nat → AH → Prop} {g g' : MG} (e : g = g') (k : V E M d b pc ls st (mkM am B h0 g') Q X) : V E M d b pc ls st (mkM am B h0 g) Q X := e ▸ k
theorem gup_rd {g : MG} {k k' : Nat} {i i' v : Int} : gup g k i v k' i' = if k' = k ∧ i' = i then v else g k' i' := by
  unfold gup
  by_cases h1 : k' = k
  · subst h1
    rw [if_pos rfl]
    unfold aup
    by_cases h2 : i' = i <;> simp [h2]
  · rw [if_neg h1]; simp [h1]
theorem gup_gup {g : MG} {k : Nat} {i v w : Int} : gup (gup g k i v) k i w = gup g k i w := by
  funext k' i'
  simp only [gup_rd]
  split <;> simp_all
theorem gup_self {g : MG} {k : Nat} {i v : Int} (h : g k i = v) : gup g k i v = g := by
  funext k' i'
  simp only [gup_rd]
  split
  · rename_i h1; rw [h1.1, h1.2, h]
  · rfl
theorem gup_comm {g : MG} {k k' : Nat} {i i' v v' : Int} (h : k ≠ k') : gup (gup g k i v) k' i' v' = gup (gup g k' i' v') k i v := by
  funext k1 i1
  simp only [gup_rd]
  by_cases h1 : k1 = k' <;> by_cases h2 : k1 = k <;> simp_all
/-- the last of n that meets p; -9 if none -/
def lastN (p : Int → Bool) : Nat → Int
  | 0 => -9
  | n + 1 => if p n then n else lastN p n
def lastI (p : Int → Bool) (n : Int) : Int := lastN p n.toNat
theorem lastI_0 {p : Int → Bool} : lastI p 0 = -9 := rfl
theorem lastI_s {p : Int → Bool} {n : Int} (h : 0 ≤ n) : lastI p (n + 1) = if p n then n else lastI p n := by
  unfold lastI
  rw [show (n + 1).toNat = n.toNat + 1 by omega]
  show (if p (n.toNat : Int) then (n.toNat : Int) else lastN p n.toNat) = _
  rw [show (n.toNat : Int) = n by omega]
theorem lastI_in {p : Int → Bool} {n : Int} (h : 0 ≤ n) : lastI p n = -9 ∨ (0 ≤ lastI p n ∧ lastI p n < n ∧ p (lastI p n) = true) := by
  have : ∀ m : Nat, lastN p m = -9 ∨ (0 ≤ lastN p m ∧ lastN p m < m ∧ p (lastN p m) = true) := by
    intro m
    induction m with
    | zero => exact Or.inl rfl
    | succ m ih =>
      unfold lastN
      by_cases hp : p m
      · rw [if_pos hp]; exact Or.inr ⟨by omega, by omega, hp⟩
      · rw [if_neg hp]
        rcases ih with h1 | ⟨h1, h2, h3⟩
        · exact Or.inl h1
        · exact Or.inr ⟨h1, by omega, h3⟩
  have := this n.toNat
  unfold lastI
  rcases this with h1 | ⟨h1, h2, h3⟩
  · exact Or.inl h1
  · exact Or.inr ⟨h1, by omega, h3⟩
/-! TOKENS -/
def pSg (c : Int) : Prop := c = 91 ∨ c = 93 ∨ c = 58 ∨ c = 64 ∨ c = 61 ∨ c = 46 ∨ c = 38 ∨ c = 124 ∨ c = 94 ∨ c = 43 ∨ c = 45 ∨ c = 33 ∨ c = 40 ∨ c = 41 ∨ c = 59
noncomputable def pIf {α : Type} (c : Prop) (a b : α) : α := @ite α c (Classical.propDecidable c) a b
theorem pIf_t {α : Type} {c : Prop} {a b : α} (h : c) : pIf c a b = a := by unfold pIf; simp [h]
theorem pIf_f {α : Type} {c : Prop} {a b : α} (h : ¬ c) : pIf c a b = b := by unfold pIf; simp [h]
def tkSk (tx : Int → Int) (n : Int) : Nat → Int → Int
  | 0, a => a
  | k + 1, a => if a < n ∧ tx a = 32 then tkSk tx n k (a + 1) else a
def tkS (tx : Int → Int) (n a : Int) : Int := tkSk tx n (n - a).toNat a
theorem tkS_s {tx : Int → Int} {n a : Int} (h : a < n) (h2 : tx a = 32) : tkS tx n a = tkS tx n (a + 1) := by
  unfold tkS
  rw [show (n - a).toNat = (n - (a + 1)).toNat + 1 by omega]
  show (if a < n ∧ tx a = 32 then tkSk tx n (n - (a + 1)).toNat (a + 1) else a) = _
  rw [if_pos ⟨h, h2⟩]
theorem tkS_e {tx : Int → Int} {n a : Int} (h : ¬ (a < n ∧ tx a = 32)) : tkS tx n a = a := by
  unfold tkS
  cases (n - a).toNat with
  | zero => rfl
  | succ k =>
    show (if a < n ∧ tx a = 32 then tkSk tx n k (a + 1) else a) = _
    rw [if_neg h]
abbrev isFg (tx : Int → Int) (n a : Int) : Prop := a < n ∧ 48 ≤ tx a ∧ tx a ≤ 57
def fgEk (tx : Int → Int) (n : Int) : Nat → Int → Int
  | 0, a => a
  | k + 1, a => if a < n ∧ 48 ≤ tx a ∧ tx a ≤ 57 then fgEk tx n k (a + 1) else a
def fgE (tx : Int → Int) (n a : Int) : Int := fgEk tx n (n - a).toNat a
theorem fgE_s {tx : Int → Int} {n a : Int} (h : isFg tx n a) : fgE tx n a = fgE tx n (a + 1) := by
  unfold fgE
  rw [show (n - a).toNat = (n - (a + 1)).toNat + 1 by have := h.1; omega]
  show (if a < n ∧ 48 ≤ tx a ∧ tx a ≤ 57 then fgEk tx n (n - (a + 1)).toNat (a + 1) else a) = _
  rw [if_pos h]
theorem fgE_e {tx : Int → Int} {n a : Int} (h : ¬ isFg tx n a) : fgE tx n a = a := by
  unfold fgE
  cases (n - a).toNat with
  | zero => rfl
  | succ k =>
    show (if a < n ∧ 48 ≤ tx a ∧ tx a ≤ 57 then fgEk tx n k (a + 1) else a) = _
    rw [if_neg h]
def fgVk (tx : Int → Int) (n : Int) : Nat → Int → Int → Int
  | 0, _, v => v
  | k + 1, a, v => if a < n ∧ 48 ≤ tx a ∧ tx a ≤ 57 then fgVk tx n k (a + 1) (if 255 < v then 256 else 10 * v + tx a - 48) else v
def fgV (tx : Int → Int) (n a v : Int) : Int := fgVk tx n (n - a).toNat a v
theorem fgV_s {tx : Int → Int} {n a v : Int} (h : isFg tx n a) : fgV tx n a v = fgV tx n (a + 1) (if 255 < v then 256 else 10 * v + tx a - 48) := by
  unfold fgV
  rw [show (n - a).toNat = (n - (a + 1)).toNat + 1 by have := h.1; omega]
  show (if a < n ∧ 48 ≤ tx a ∧ tx a ≤ 57 then fgVk tx n (n - (a + 1)).toNat (a + 1) _ else v) = _
  rw [if_pos h]
theorem fgV_e {tx : Int → Int} {n a v : Int} (h : ¬ isFg tx n a) : fgV tx n a v = v := by
  unfold fgV
  cases (n - a).toNat with
  | zero => rfl
  | succ k =>
    show (if a < n ∧ 48 ≤ tx a ∧ tx a ≤ 57 then fgVk tx n k (a + 1) _ else v) = _
    rw [if_neg h]
/-- the token from a on: its start, its sort (1 name, 2 number, 3 sign, 4 end, 5 unfit), its value, what is behind it -/
noncomputable def tkSort (tx : Int → Int) (n a : Int) : Int :=
  pIf (a = n) 4 (pIf (48 ≤ tx a ∧ tx a ≤ 57) (pIf (255 < fgV tx n a 0 ∨ (tx a = 48 ∧ a + 1 < fgE tx n a)) 5 2) (pIf (97 ≤ tx a ∧ tx a ≤ 122) 1 (pIf (pSg (tx a)) 3 5)))
noncomputable def tkVal (tx : Int → Int) (n a old : Int) : Int :=
  pIf (a = n) old (pIf (48 ≤ tx a ∧ tx a ≤ 57) (fgV tx n a 0) (pIf (97 ≤ tx a ∧ tx a ≤ 122) (tx a - 97) (tx a)))
noncomputable def tkEnd (tx : Int → Int) (n a : Int) : Int := pIf (a = n) a (pIf (48 ≤ tx a ∧ tx a ≤ 57) (fgE tx n a) (a + 1))
def pT (g : MG) (a s o v : Int) : MG := gup (gup (gup (gup g 16 0 a) 17 0 s) 18 0 o) 19 0 v
noncomputable def pNext (g : MG) : MG :=
  pT g (tkEnd (g 14) (g 15 0) (tkS (g 14) (g 15 0) (g 16 0))) (tkS (g 14) (g 15 0) (g 16 0)) (tkSort (g 14) (g 15 0) (tkS (g 14) (g 15 0) (g 16 0))) (tkVal (g 14) (g 15 0) (tkS (g 14) (g 15 0) (g 16 0)) (g 19 0))
theorem pT_self {g : MG} : pT g (g 16 0) (g 17 0) (g 18 0) (g 19 0) = g := by
  unfold pT
  rw [gup_self rfl, gup_self rfl, gup_self rfl, gup_self rfl]
theorem pT_16 {g : MG} {a s o v x : Int} : gup (pT g a s o v) 16 0 x = pT g x s o v := by
  unfold pT
  rw [gup_comm (k := 19) (by decide), gup_comm (k := 18) (by decide), gup_comm (k := 17) (by decide), gup_gup]
theorem pT_17 {g : MG} {a s o v x : Int} : gup (pT g a s o v) 17 0 x = pT g a x o v := by
  unfold pT
  rw [gup_comm (k := 19) (by decide), gup_comm (k := 18) (by decide), gup_gup]
theorem pT_18 {g : MG} {a s o v x : Int} : gup (pT g a s o v) 18 0 x = pT g a s x v := by
  unfold pT
  rw [gup_comm (k := 19) (by decide), gup_gup]
theorem pT_19 {g : MG} {a s o v x : Int} : gup (pT g a s o v) 19 0 x = pT g a s o x := by
  unfold pT
  rw [gup_gup]
theorem pT_ne {g : MG} {a s o v : Int} {k : Nat} (h : k < 16 ∨ 19 < k) : pT g a s o v k = g k := by
  unfold pT
  rw [gup_ne (by omega), gup_ne (by omega), gup_ne (by omega), gup_ne (by omega)]
theorem Rng.pT {g : MG} (h : Rng g) {a s o v : Int} (ha : inr a) (hs : inr s) (ho : inr o) (hv : inr v) : Rng (pT g a s o v) := (((h.up ha).up hs).up ho).up hv
