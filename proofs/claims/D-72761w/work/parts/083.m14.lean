/-! THE REFERENCE'S METHODS, part 14: what nodes are by wires -/
/-- an operator's answer -/
def wkd (a b s : Int) : Int := if s = 38 then (if a = 0 ∨ b = 0 then 0 else if a = -7 ∨ b = -7 then -7 else zAnd a b) else if a = -7 ∨ b = -7 then -7 else if s = 124 then zOr a b else if s = 94 then zXor a b else if s = 43 then zAnd (a + b) 255 else zAnd (a - b) 255
def xNot (v : Int) : Int := if v = -7 then -7 else if v = 0 then 1 else 0
theorem wkd_i (a b s : Int) : inr (wkd a b s) := by
  unfold wkd zAnd zOr zXor
  repeat' split
  all_goals first | decide | exact inr_toInt _
theorem xNot_i (v : Int) : inr (xNot v) := by
  unfold xNot
  repeat' split
  all_goals decide
def xw (g : MG) (d k : Int) : Int := g 7 (40 * d + 2 * k)
def xx (g : MG) (d k : Int) : Int := g 7 (40 * d + 2 * k + 1)
/-- a step of an expression on a stack -/
def xSt (nv : Int → Int) (s : (Int → Int) × Int) (w x : Int) : (Int → Int) × Int := if w = 2 then (aup s.1 (s.2 - 1) (xNot (s.1 (s.2 - 1))), s.2) else if w = 3 then (aup s.1 (s.2 - 1 - 1) (wkd (s.1 (s.2 - 1 - 1)) (s.1 (s.2 - 1)) x), s.2 - 1) else (aup s.1 s.2 (if w = 0 then x else nv x), s.2 + 1)
def xEvN (g : MG) (nv : Int → Int) (d : Int) (sf : Int → Int) : Nat → (Int → Int) × Int
  | 0 => (sf, 0)
  | k + 1 => xSt nv (xEvN g nv d sf k) (xw g d k) (xx g d k)
def xEv (g : MG) (nv : Int → Int) (d : Int) (sf : Int → Int) (k : Int) : (Int → Int) × Int := xEvN g nv d sf k.toNat
theorem xEv_s {g : MG} {nv : Int → Int} {d : Int} {sf : Int → Int} {k : Int} (h : 0 ≤ k) : xEv g nv d sf (k + 1) = xSt nv (xEv g nv d sf k) (xw g d k) (xx g d k) := by
  unfold xEv
  rw [show (k + 1).toNat = k.toNat + 1 by omega]
  show xSt nv (xEvN g nv d sf k.toNat) (xw g d (k.toNat : Int)) (xx g d (k.toNat : Int)) = _
  rw [show ((k.toNat : Nat) : Int) = k by omega]
/-- how high the stack stands -/
def xDpN (g : MG) (d : Int) : Nat → Int
  | 0 => 0
  | k + 1 => if xw g d k = 2 then xDpN g d k else if xw g d k = 3 then xDpN g d k - 1 else xDpN g d k + 1
def xDp (g : MG) (d k : Int) : Int := xDpN g d k.toNat
theorem xEv_dp {g : MG} {nv : Int → Int} {d : Int} {sf : Int → Int} {k : Int} : (xEv g nv d sf k).2 = xDp g d k := by
  unfold xEv xDp
  generalize k.toNat = n
  induction n with
  | zero => rfl
  | succ n ih =>
    unfold xEvN xDpN xSt
    rw [ih]
    by_cases h2 : xw g d n = 2
    · rw [if_pos h2, if_pos h2]
    · rw [if_neg h2, if_neg h2]
      by_cases h3 : xw g d n = 3
      · rw [if_pos h3, if_pos h3]
      · rw [if_neg h3, if_neg h3]
/-- an expression by nodes below n: its steps find what they need -/
def Saf (g : MG) (d n : Int) : Prop := (0 ≤ g 8 d ∧ g 8 d ≤ 19) ∧ xDp g d (g 8 d) = 1 ∧ ∀ k, 0 ≤ k → k < g 8 d → (xw g d k = 2 → 1 ≤ xDp g d k) ∧ (xw g d k = 3 → 2 ≤ xDp g d k) ∧ (0 ≤ xDp g d k ∧ xDp g d k ≤ 8) ∧ (xw g d k ≠ 2 → xw g d k ≠ 3 → xDp g d k ≤ 7 ∧ (xw g d k ≠ 0 → 0 ≤ xx g d k ∧ xx g d k < n))
/-- its answer -/
def xVal (g : MG) (nv : Int → Int) (d : Int) : Int := (xEv g nv d (fun _ => 0) (g 8 d)).1 0
/-- only what lies on the stack, and nodes below n, matter -/
theorem xEv_c {g : MG} {nv nv' : Int → Int} {d n : Int} {sf sf' : Int → Int} (hs : Saf g d n) (hn : ∀ j, 0 ≤ j → j < n → nv j = nv' j) : ∀ k : Nat, (k : Int) ≤ g 8 d → ∀ j, 0 ≤ j → j < xDp g d k → (xEv g nv d sf k).1 j = (xEv g nv' d sf' k).1 j := by
  intro k
  induction k with
  | zero =>
    intro _ j h1 h2
    exact absurd h2 (by show ¬ j < 0; omega)
  | succ k ih =>
    intro hk j h1 h2
    have hk' : (k : Int) < g 8 d := by omega
    obtain ⟨q1, q2, q3, q4⟩ := hs.2.2 k (by omega) hk'
    have ih := ih (by omega)
    have e1 : ((k + 1 : Nat) : Int) = (k : Int) + 1 := by omega
    rw [e1] at h2 ⊢
    rw [xEv_s (by omega), xEv_s (by omega)]
    have hd : xDp g d ((k : Int) + 1) = if xw g d k = 2 then xDp g d k else if xw g d k = 3 then xDp g d k - 1 else xDp g d k + 1 := by
      unfold xDp
      rw [show ((k : Int) + 1).toNat = k + 1 by omega, show ((k : Int)).toNat = k by omega]
      rfl
    rw [hd] at h2
    unfold xSt
    rw [xEv_dp, xEv_dp]
    by_cases w2 : xw g d k = 2
    · rw [if_pos w2] at h2
      rw [if_pos w2, if_pos w2]
      simp only [aup]
      have := q1 w2
      split
      · rw [ih _ (by omega) (by omega)]
      · exact ih _ h1 (by omega)
    · rw [if_neg w2] at h2
      rw [if_neg w2, if_neg w2]
      by_cases w3 : xw g d k = 3
      · rw [if_pos w3] at h2
        rw [if_pos w3, if_pos w3]
        simp only [aup]
        have := q2 w3
        split
        · rw [ih _ (by omega) (by omega), ih _ (by omega) (by omega)]
        · exact ih _ h1 (by omega)
      · rw [if_neg w3] at h2
        rw [if_neg w3, if_neg w3]
        simp only [aup]
        have q4' := q4 w2 w3
        split
        · by_cases w0 : xw g d k = 0
          · rw [if_pos w0, if_pos w0]
          · rw [if_neg w0, if_neg w0]
            have := q4'.2 w0
            exact hn _ this.1 this.2
        · exact ih _ h1 (by omega)
theorem xVal_c {g : MG} {nv nv' : Int → Int} {d n : Int} {sf : Int → Int} (hs : Saf g d n) (hn : ∀ j, 0 ≤ j → j < n → nv j = nv' j) : (xEv g nv d sf (g 8 d)).1 0 = xVal g nv' d := by
  have h := hs.1
  have h1 := hs.2.1
  have := xEv_c (sf := sf) (sf' := fun _ => 0) hs hn (g 8 d).toNat (by omega) 0 (by omega)
  rw [show (((g 8 d).toNat : Nat) : Int) = g 8 d by omega] at this
  exact this (by omega)
section M14
variable {E : Ev} {am : Nat} {B : Nat → Nat} {h0 h : AH} {g : MG} {Q : Value → AH → Prop} {X : Nat → AH → Prop}
theorem c_X7_worked {a b s : Int} (ha : inr a) (hb : inr b) (hs : inr s) (K : Q (vI (wkd a b s)) h) : V E mX7_worked 1 0 0 [some (vI a), some (vI b), some (vI s)] [] h Q X := by
  unfold wkd at K
  refine V_iload_n dX7_worked_0 rfl ?_
  refine V_bipush dX7_worked_1 (by decide) ?_
  refine V_icmp_ne 39 dX7_worked_3 (by decide) (by first | omega | exact hr_g _ _ | decide) (by first | omega | exact hr_g _ _ | decide) (fun c_3 => ?_) (fun c_3 => ?_)
  · refine V_iload_n dX7_worked_39 rfl ?_
    refine V_bipush dX7_worked_40 (by decide) ?_
    refine V_icmp_eq 51 dX7_worked_42 (by decide) (by first | omega | exact hr_g _ _ | decide) (by first | omega | exact hr_g _ _ | decide) (fun c_42 => ?_) (fun c_42 => ?_)
    · refine V_bipush dX7_worked_51 (by decide) ?_
      exact V_iret dX7_worked_53 rfl (by first | (rw [if_pos (by omega), if_pos (by omega)] at K; exact K) | (rw [if_pos (by omega), if_neg (by omega), if_pos (by omega)] at K; exact K) | (rw [if_pos (by omega), if_neg (by omega), if_neg (by omega)] at K; exact K) | (rw [if_neg (by omega), if_pos (by omega)] at K; exact K) | (rw [if_neg (by omega), if_neg (by omega), if_pos (by omega)] at K; exact K) | (rw [if_neg (by omega), if_neg (by omega), if_neg (by omega), if_pos (by omega)] at K; exact K) | (rw [if_neg (by omega), if_neg (by omega), if_neg (by omega), if_neg (by omega), if_pos (by omega)] at K; exact K) | (rw [if_neg (by omega), if_neg (by omega), if_neg (by omega), if_neg (by omega), if_neg (by omega)] at K; exact K))
    · refine V_iload_n dX7_worked_45 rfl ?_
      refine V_bipush dX7_worked_46 (by decide) ?_
      refine V_icmp_ne 54 dX7_worked_48 (by decide) (by first | omega | exact hr_g _ _ | decide) (by first | omega | exact hr_g _ _ | decide) (fun c_48 => ?_) (fun c_48 => ?_)
      · refine V_iload_n dX7_worked_54 rfl ?_
        refine V_bipush dX7_worked_55 (by decide) ?_
        refine V_icmp_ne 66 dX7_worked_57 (by decide) (by first | omega | exact hr_g _ _ | decide) (by first | omega | exact hr_g _ _ | decide) (fun c_57 => ?_) (fun c_57 => ?_)
        · refine V_iload_n dX7_worked_66 rfl ?_
          refine V_bipush dX7_worked_67 (by decide) ?_
          refine V_icmp_ne 78 dX7_worked_69 (by decide) (by first | omega | exact hr_g _ _ | decide) (by first | omega | exact hr_g _ _ | decide) (fun c_69 => ?_) (fun c_69 => ?_)
          · refine V_iload_n dX7_worked_78 rfl ?_
            refine V_bipush dX7_worked_79 (by decide) ?_
            refine V_icmp_ne 94 dX7_worked_81 (by decide) (by first | omega | exact hr_g _ _ | decide) (by first | omega | exact hr_g _ _ | decide) (fun c_81 => ?_) (fun c_81 => ?_)
            · refine V_iload_n dX7_worked_94 rfl ?_
              refine V_iload_n dX7_worked_95 rfl ?_
              refine V_isub dX7_worked_96 ?_
              refine V_sipush dX7_worked_97 (by decide) ?_
              refine V_iand dX7_worked_100 ?_
              exact V_iret dX7_worked_101 rfl (by first | (rw [if_pos (by omega), if_pos (by omega)] at K; exact K) | (rw [if_pos (by omega), if_neg (by omega), if_pos (by omega)] at K; exact K) | (rw [if_pos (by omega), if_neg (by omega), if_neg (by omega)] at K; exact K) | (rw [if_neg (by omega), if_pos (by omega)] at K; exact K) | (rw [if_neg (by omega), if_neg (by omega), if_pos (by omega)] at K; exact K) | (rw [if_neg (by omega), if_neg (by omega), if_neg (by omega), if_pos (by omega)] at K; exact K) | (rw [if_neg (by omega), if_neg (by omega), if_neg (by omega), if_neg (by omega), if_pos (by omega)] at K; exact K) | (rw [if_neg (by omega), if_neg (by omega), if_neg (by omega), if_neg (by omega), if_neg (by omega)] at K; exact K))
            · refine V_iload_n dX7_worked_84 rfl ?_
              refine V_iload_n dX7_worked_85 rfl ?_
              refine V_iadd dX7_worked_86 ?_
              refine V_sipush dX7_worked_87 (by decide) ?_
              refine V_iand dX7_worked_90 ?_
              refine V_goto 101 dX7_worked_91 (by decide) ?_
              exact V_iret dX7_worked_101 rfl (by first | (rw [if_pos (by omega), if_pos (by omega)] at K; exact K) | (rw [if_pos (by omega), if_neg (by omega), if_pos (by omega)] at K; exact K) | (rw [if_pos (by omega), if_neg (by omega), if_neg (by omega)] at K; exact K) | (rw [if_neg (by omega), if_pos (by omega)] at K; exact K) | (rw [if_neg (by omega), if_neg (by omega), if_pos (by omega)] at K; exact K) | (rw [if_neg (by omega), if_neg (by omega), if_neg (by omega), if_pos (by omega)] at K; exact K) | (rw [if_neg (by omega), if_neg (by omega), if_neg (by omega), if_neg (by omega), if_pos (by omega)] at K; exact K) | (rw [if_neg (by omega), if_neg (by omega), if_neg (by omega), if_neg (by omega), if_neg (by omega)] at K; exact K))
          · refine V_iload_n dX7_worked_72 rfl ?_
            refine V_iload_n dX7_worked_73 rfl ?_
            refine V_ixor dX7_worked_74 ?_
            refine V_goto 101 dX7_worked_75 (by decide) ?_
            exact V_iret dX7_worked_101 rfl (by first | (rw [if_pos (by omega), if_pos (by omega)] at K; exact K) | (rw [if_pos (by omega), if_neg (by omega), if_pos (by omega)] at K; exact K) | (rw [if_pos (by omega), if_neg (by omega), if_neg (by omega)] at K; exact K) | (rw [if_neg (by omega), if_pos (by omega)] at K; exact K) | (rw [if_neg (by omega), if_neg (by omega), if_pos (by omega)] at K; exact K) | (rw [if_neg (by omega), if_neg (by omega), if_neg (by omega), if_pos (by omega)] at K; exact K) | (rw [if_neg (by omega), if_neg (by omega), if_neg (by omega), if_neg (by omega), if_pos (by omega)] at K; exact K) | (rw [if_neg (by omega), if_neg (by omega), if_neg (by omega), if_neg (by omega), if_neg (by omega)] at K; exact K))
        · refine V_iload_n dX7_worked_60 rfl ?_
          refine V_iload_n dX7_worked_61 rfl ?_
          refine V_ior dX7_worked_62 ?_
          refine V_goto 101 dX7_worked_63 (by decide) ?_
          exact V_iret dX7_worked_101 rfl (by first | (rw [if_pos (by omega), if_pos (by omega)] at K; exact K) | (rw [if_pos (by omega), if_neg (by omega), if_pos (by omega)] at K; exact K) | (rw [if_pos (by omega), if_neg (by omega), if_neg (by omega)] at K; exact K) | (rw [if_neg (by omega), if_pos (by omega)] at K; exact K) | (rw [if_neg (by omega), if_neg (by omega), if_pos (by omega)] at K; exact K) | (rw [if_neg (by omega), if_neg (by omega), if_neg (by omega), if_pos (by omega)] at K; exact K) | (rw [if_neg (by omega), if_neg (by omega), if_neg (by omega), if_neg (by omega), if_pos (by omega)] at K; exact K) | (rw [if_neg (by omega), if_neg (by omega), if_neg (by omega), if_neg (by omega), if_neg (by omega)] at K; exact K))
      · refine V_bipush dX7_worked_51 (by decide) ?_
        exact V_iret dX7_worked_53 rfl (by first | (rw [if_pos (by omega), if_pos (by omega)] at K; exact K) | (rw [if_pos (by omega), if_neg (by omega), if_pos (by omega)] at K; exact K) | (rw [if_pos (by omega), if_neg (by omega), if_neg (by omega)] at K; exact K) | (rw [if_neg (by omega), if_pos (by omega)] at K; exact K) | (rw [if_neg (by omega), if_neg (by omega), if_pos (by omega)] at K; exact K) | (rw [if_neg (by omega), if_neg (by omega), if_neg (by omega), if_pos (by omega)] at K; exact K) | (rw [if_neg (by omega), if_neg (by omega), if_neg (by omega), if_neg (by omega), if_pos (by omega)] at K; exact K) | (rw [if_neg (by omega), if_neg (by omega), if_neg (by omega), if_neg (by omega), if_neg (by omega)] at K; exact K))
  · refine V_iload_n dX7_worked_6 rfl ?_
    refine V_if_eq 14 dX7_worked_7 (by decide) (by first | omega | exact hr_g _ _ | decide) (fun c_7 => ?_) (fun c_7 => ?_)
    · refine V_iconst dX7_worked_14 ?_
      refine V_goto 38 dX7_worked_15 (by decide) ?_
      exact V_iret dX7_worked_38 rfl (by first | (rw [if_pos (by omega), if_pos (by omega)] at K; exact K) | (rw [if_pos (by omega), if_neg (by omega), if_pos (by omega)] at K; exact K) | (rw [if_pos (by omega), if_neg (by omega), if_neg (by omega)] at K; exact K) | (rw [if_neg (by omega), if_pos (by omega)] at K; exact K) | (rw [if_neg (by omega), if_neg (by omega), if_pos (by omega)] at K; exact K) | (rw [if_neg (by omega), if_neg (by omega), if_neg (by omega), if_pos (by omega)] at K; exact K) | (rw [if_neg (by omega), if_neg (by omega), if_neg (by omega), if_neg (by omega), if_pos (by omega)] at K; exact K) | (rw [if_neg (by omega), if_neg (by omega), if_neg (by omega), if_neg (by omega), if_neg (by omega)] at K; exact K))
    · refine V_iload_n dX7_worked_10 rfl ?_
      refine V_if_ne 18 dX7_worked_11 (by decide) (by first | omega | exact hr_g _ _ | decide) (fun c_11 => ?_) (fun c_11 => ?_)
      · refine V_iload_n dX7_worked_18 rfl ?_
        refine V_bipush dX7_worked_19 (by decide) ?_
        refine V_icmp_eq 30 dX7_worked_21 (by decide) (by first | omega | exact hr_g _ _ | decide) (by first | omega | exact hr_g _ _ | decide) (fun c_21 => ?_) (fun c_21 => ?_)
        · refine V_bipush dX7_worked_30 (by decide) ?_
          refine V_goto 38 dX7_worked_32 (by decide) ?_
          exact V_iret dX7_worked_38 rfl (by first | (rw [if_pos (by omega), if_pos (by omega)] at K; exact K) | (rw [if_pos (by omega), if_neg (by omega), if_pos (by omega)] at K; exact K) | (rw [if_pos (by omega), if_neg (by omega), if_neg (by omega)] at K; exact K) | (rw [if_neg (by omega), if_pos (by omega)] at K; exact K) | (rw [if_neg (by omega), if_neg (by omega), if_pos (by omega)] at K; exact K) | (rw [if_neg (by omega), if_neg (by omega), if_neg (by omega), if_pos (by omega)] at K; exact K) | (rw [if_neg (by omega), if_neg (by omega), if_neg (by omega), if_neg (by omega), if_pos (by omega)] at K; exact K) | (rw [if_neg (by omega), if_neg (by omega), if_neg (by omega), if_neg (by omega), if_neg (by omega)] at K; exact K))
        · refine V_iload_n dX7_worked_24 rfl ?_
          refine V_bipush dX7_worked_25 (by decide) ?_
          refine V_icmp_ne 35 dX7_worked_27 (by decide) (by first | omega | exact hr_g _ _ | decide) (by first | omega | exact hr_g _ _ | decide) (fun c_27 => ?_) (fun c_27 => ?_)
          · refine V_iload_n dX7_worked_35 rfl ?_
            refine V_iload_n dX7_worked_36 rfl ?_
            refine V_iand dX7_worked_37 ?_
            exact V_iret dX7_worked_38 rfl (by first | (rw [if_pos (by omega), if_pos (by omega)] at K; exact K) | (rw [if_pos (by omega), if_neg (by omega), if_pos (by omega)] at K; exact K) | (rw [if_pos (by omega), if_neg (by omega), if_neg (by omega)] at K; exact K) | (rw [if_neg (by omega), if_pos (by omega)] at K; exact K) | (rw [if_neg (by omega), if_neg (by omega), if_pos (by omega)] at K; exact K) | (rw [if_neg (by omega), if_neg (by omega), if_neg (by omega), if_pos (by omega)] at K; exact K) | (rw [if_neg (by omega), if_neg (by omega), if_neg (by omega), if_neg (by omega), if_pos (by omega)] at K; exact K) | (rw [if_neg (by omega), if_neg (by omega), if_neg (by omega), if_neg (by omega), if_neg (by omega)] at K; exact K))
          · refine V_bipush dX7_worked_30 (by decide) ?_
            refine V_goto 38 dX7_worked_32 (by decide) ?_
            exact V_iret dX7_worked_38 rfl (by first | (rw [if_pos (by omega), if_pos (by omega)] at K; exact K) | (rw [if_pos (by omega), if_neg (by omega), if_pos (by omega)] at K; exact K) | (rw [if_pos (by omega), if_neg (by omega), if_neg (by omega)] at K; exact K) | (rw [if_neg (by omega), if_pos (by omega)] at K; exact K) | (rw [if_neg (by omega), if_neg (by omega), if_pos (by omega)] at K; exact K) | (rw [if_neg (by omega), if_neg (by omega), if_neg (by omega), if_pos (by omega)] at K; exact K) | (rw [if_neg (by omega), if_neg (by omega), if_neg (by omega), if_neg (by omega), if_pos (by omega)] at K; exact K) | (rw [if_neg (by omega), if_neg (by omega), if_neg (by omega), if_neg (by omega), if_neg (by omega)] at K; exact K))
      · refine V_iconst dX7_worked_14 ?_
        refine V_goto 38 dX7_worked_15 (by decide) ?_
        exact V_iret dX7_worked_38 rfl (by first | (rw [if_pos (by omega), if_pos (by omega)] at K; exact K) | (rw [if_pos (by omega), if_neg (by omega), if_pos (by omega)] at K; exact K) | (rw [if_pos (by omega), if_neg (by omega), if_neg (by omega)] at K; exact K) | (rw [if_neg (by omega), if_pos (by omega)] at K; exact K) | (rw [if_neg (by omega), if_neg (by omega), if_pos (by omega)] at K; exact K) | (rw [if_neg (by omega), if_neg (by omega), if_neg (by omega), if_pos (by omega)] at K; exact K) | (rw [if_neg (by omega), if_neg (by omega), if_neg (by omega), if_neg (by omega), if_pos (by omega)] at K; exact K) | (rw [if_neg (by omega), if_neg (by omega), if_neg (by omega), if_neg (by omega), if_neg (by omega)] at K; exact K))
theorem xSt_r {nv : Int → Int} {s : (Int → Int) × Int} {w x : Int} (hs : ∀ j, inr (s.1 j)) (hn : ∀ j, inr (nv j)) (hx : inr x) : ∀ j, inr ((xSt nv s w x).1 j) := by
  intro j
  unfold xSt
  split
  · simp only [aup]; split
    · exact xNot_i _
    · exact hs _
  · split
    · simp only [aup]; split
      · exact wkd_i _ _ _
      · exact hs _
    · simp only [aup]; split
      · split
        · exact hx
        · exact hn _
      · exact hs _
theorem xEv_r {nv : Int → Int} {d : Int} {sf : Int → Int} (hr : Rng g) (hs : ∀ j, inr (sf j)) (hn : ∀ j, inr (nv j)) (k : Int) : ∀ j, inr ((xEv g nv d sf k).1 j) := by
  unfold xEv
  generalize k.toNat = n
  induction n with
  | zero => exact hs
  | succ n ih => exact xSt_r ih hn (hr _ _)
theorem c_X7_expressed (hB : MB am B) (hr_g : Rng g) {d n : Int} (hd : 0 ≤ d ∧ d ≤ 3) (hn : n ≤ 12) (hS : Saf g d n) (K : Q (vI (xVal g (g 36) d)) (mkM am B h0 (gset g 37 (xEv g (g 36) d (g 37) (g 8 d)).1))) : V E mX7_expressed 2 0 0 [some (.ref am), some (vI d), none, none, none, none, none] [] (mkM am B h0 g) Q X := by
  have hS1 := hS.1
  have hv : (xEv g (g 36) d (g 37) (g 8 d)).1 0 = xVal g (g 36) d := xVal_c hS (fun _ _ _ => rfl)
  have L : ∀ v4 v5 v6 : Option Value, V E mX7_expressed 2 0 4 [some (.ref am), some (vI d), some (vI 0), some (vI 0), v4, v5, v6] [] (mkM am B h0 (gset g 37 (xEv g (g 36) d (g 37) 0).1)) Q X := by
    refine loop_upI (P := fun k => ∀ v4 v5 v6 : Option Value, V E mX7_expressed 2 0 4 [some (.ref am), some (vI d), some (vI (xDp g d k)), some (vI k), v4, v5, v6] [] (mkM am B h0 (gset g 37 (xEv g (g 36) d (g 37) k).1)) Q X) 0 (g 8 d) (fun k h1 h2 ih => ?_) hS1.1
    intro v4 v5 v6
    by_cases hk : k = g 8 d
    · subst hk
      refine V_iload_n dX7_expressed_4 rfl ?_
      refine V_aload_n dX7_expressed_5 rfl ?_
      refine VM_geta 8 dX7_expressed_6 q2614 (by decide) rfl ?_
      refine V_iload_n dX7_expressed_9 rfl ?_
      refine VM_ialdE 8 (g 8 d) hB dX7_expressed_10 mar8 rfl (by first | omega | (simp [gup, aup]; omega)) (by show _ < (4 : Int); first | omega | (simp [gup, aup]; omega)) (by decide) rfl ?_
      refine V_icmp_ge 166 dX7_expressed_11 (by decide) (by first | omega | exact hr_g _ _ | decide) (by first | omega | exact hr_g _ _ | decide) (fun c_11 => ?_) (fun c_11 => by exfalso; omega)
      refine V_aload_n dX7_expressed_166 rfl ?_
      refine VM_geta 37 dX7_expressed_167 q2643 (by decide) rfl ?_
      refine V_iconst dX7_expressed_170 ?_
      refine VM_ialdE 37 (((xEv g (g 36) d (g 37) (g 8 d)).1) 0) hB dX7_expressed_171 mar37 rfl (by first | omega | (simp [gup, aup]; omega)) (by show _ < (8 : Int); first | omega | (simp [gup, aup]; omega)) (by decide) rfl ?_
      exact V_iret dX7_expressed_172 rfl (by rw [hv]; exact K)
    · obtain ⟨q1, q2, q3, q4⟩ := hS.2.2 k h1 (by omega)
      have ih' := ih (by omega)
      rw [xEv_s h1] at ih'
      have hdp : xDp g d (k + 1) = if xw g d k = 2 then xDp g d k else if xw g d k = 3 then xDp g d k - 1 else xDp g d k + 1 := by
        unfold xDp
        rw [show (k + 1).toNat = k.toNat + 1 by omega]
        show (if xw g d (k.toNat : Int) = 2 then _ else _) = _
        rw [show ((k.toNat : Nat) : Int) = k by omega]
      have hrF := xEv_r (nv := g 36) (d := d) hr_g (hr_g 37) (hr_g 36) k
      have hsn : (xEv g (g 36) d (g 37) k).2 = xDp g d k := xEv_dp
      unfold xSt at ih'
      rw [hsn] at ih'
      generalize (xEv g (g 36) d (g 37) k).1 = F at *
      generalize xDp g d k = t at *
      change (xw g d k = 2 → _) at q1
      by_cases w2 : xw g d k = 2
      · rw [if_pos w2] at ih' hdp
        rw [hdp] at ih'
        have w2' : g 7 (40 * d + 2 * k) = 2 := w2
        have := q1 w2
        refine V_iload_n dX7_expressed_4 rfl ?_
        refine V_aload_n dX7_expressed_5 rfl ?_
        refine VM_geta 8 dX7_expressed_6 q2614 (by decide) rfl ?_
        refine V_iload_n dX7_expressed_9 rfl ?_
        refine VM_ialdE 8 (g 8 d) hB dX7_expressed_10 mar8 rfl (by first | omega | (simp [gup, aup]; omega)) (by show _ < (4 : Int); first | omega | (simp [gup, aup]; omega)) (by decide) rfl ?_
        refine V_icmp_ge 166 dX7_expressed_11 (by decide) (by first | omega | exact hr_g _ _ | exact hrF _ | decide) (by first | omega | exact hr_g _ _ | exact hrF _ | decide) (fun c_11 => by exfalso; omega) (fun c_11 => ?_)
        refine V_aload_n dX7_expressed_14 rfl ?_
        refine VM_geta 7 dX7_expressed_15 q2613 (by decide) rfl ?_
        refine V_bipush dX7_expressed_18 (by decide) ?_
        refine V_iload_n dX7_expressed_20 rfl ?_
        refine V_imul dX7_expressed_21 ?_
        refine V_iconst dX7_expressed_22 ?_
        refine V_iload_n dX7_expressed_23 rfl ?_
        refine V_imul dX7_expressed_24 ?_
        refine V_iadd dX7_expressed_25 ?_
        refine VM_ialdE 7 (g 7 ((40 * d) + (2 * k))) hB dX7_expressed_26 mar7 rfl (by first | omega | (simp [gup, aup]; omega)) (by show _ < (160 : Int); first | omega | (simp [gup, aup]; omega)) (by decide) rfl ?_
        refine V_istore dX7_expressed_27 (by decide) ?_
        refine V_aload_n dX7_expressed_29 rfl ?_
        refine VM_geta 7 dX7_expressed_30 q2613 (by decide) rfl ?_
        refine V_bipush dX7_expressed_33 (by decide) ?_
        refine V_iload_n dX7_expressed_35 rfl ?_
        refine V_imul dX7_expressed_36 ?_
        refine V_iconst dX7_expressed_37 ?_
        refine V_iload_n dX7_expressed_38 rfl ?_
        refine V_imul dX7_expressed_39 ?_
        refine V_iadd dX7_expressed_40 ?_
        refine V_iconst dX7_expressed_41 ?_
        refine V_iadd dX7_expressed_42 ?_
        refine VM_ialdE 7 (g 7 (((40 * d) + (2 * k)) + 1)) hB dX7_expressed_43 mar7 rfl (by first | omega | (simp [gup, aup]; omega)) (by show _ < (160 : Int); first | omega | (simp [gup, aup]; omega)) (by decide) rfl ?_
        refine V_istore dX7_expressed_44 (by decide) ?_
        refine V_iload dX7_expressed_46 rfl ?_
        refine V_iconst dX7_expressed_48 ?_
        refine V_icmp_ne 95 dX7_expressed_49 (by decide) (by first | omega | exact hr_g _ _ | exact hrF _ | decide) (by first | omega | exact hr_g _ _ | exact hrF _ | decide) (fun c_49 => by exfalso; omega) (fun c_49 => ?_)
        refine V_aload_n dX7_expressed_52 rfl ?_
        refine VM_geta 37 dX7_expressed_53 q2643 (by decide) rfl ?_
        refine V_iload_n dX7_expressed_56 rfl ?_
        refine V_iconst dX7_expressed_57 ?_
        refine V_isub dX7_expressed_58 ?_
        refine VM_ialdE 37 (F (t - 1)) hB dX7_expressed_59 mar37 rfl (by first | omega | (simp [gup, aup]; omega)) (by show _ < (8 : Int); first | omega | (simp [gup, aup]; omega)) (by decide) rfl ?_
        refine V_istore dX7_expressed_60 (by decide) ?_
        refine V_aload_n dX7_expressed_62 rfl ?_
        refine VM_geta 37 dX7_expressed_63 q2643 (by decide) rfl ?_
        refine V_iload_n dX7_expressed_66 rfl ?_
        refine V_iconst dX7_expressed_67 ?_
        refine V_isub dX7_expressed_68 ?_
        refine V_iload dX7_expressed_69 rfl ?_
        refine V_bipush dX7_expressed_71 (by decide) ?_
        refine V_icmp_ne 81 dX7_expressed_73 (by decide) (by first | omega | exact hr_g _ _ | exact hrF _ | decide) (by first | omega | exact hr_g _ _ | exact hrF _ | decide) (fun c_73 => ?_) (fun c_73 => ?_)
        · refine V_iload dX7_expressed_81 rfl ?_
          refine V_if_ne 90 dX7_expressed_83 (by decide) (by first | omega | exact hr_g _ _ | exact hrF _ | decide) (fun c_83 => ?_) (fun c_83 => ?_)
          · refine V_iconst dX7_expressed_90 ?_
            refine VM_iast 37 hB dX7_expressed_91 mar37 rfl mfa37 (by first | omega | (simp [gup, aup]; omega)) (by show _ < (8 : Int); first | omega | (simp [gup, aup]; omega)) (by decide) ?_
            refine V_goto 160 dX7_expressed_92 (by decide) ?_
            refine V_iinc dX7_expressed_160 rfl (by decide) ?_
            refine V_goto 4 dX7_expressed_163 (by decide) ?_
            rw [gset_up]; have e : xNot (F (t - 1)) = 0 := (by unfold xNot; first | (rw [if_pos (by omega)]; done) | (rw [if_neg (by omega), if_pos (by omega)]; done) | (rw [if_neg (by omega), if_neg (by omega)]; done)); simp only [e] at ih'; exact ih' _ _ _
          · refine V_iconst dX7_expressed_86 ?_
            refine V_goto 91 dX7_expressed_87 (by decide) ?_
            refine VM_iast 37 hB dX7_expressed_91 mar37 rfl mfa37 (by first | omega | (simp [gup, aup]; omega)) (by show _ < (8 : Int); first | omega | (simp [gup, aup]; omega)) (by decide) ?_
            refine V_goto 160 dX7_expressed_92 (by decide) ?_
            refine V_iinc dX7_expressed_160 rfl (by decide) ?_
            refine V_goto 4 dX7_expressed_163 (by decide) ?_
            rw [gset_up]; have e : xNot (F (t - 1)) = 1 := (by unfold xNot; first | (rw [if_pos (by omega)]; done) | (rw [if_neg (by omega), if_pos (by omega)]; done) | (rw [if_neg (by omega), if_neg (by omega)]; done)); simp only [e] at ih'; exact ih' _ _ _
        · refine V_bipush dX7_expressed_76 (by decide) ?_
          refine V_goto 91 dX7_expressed_78 (by decide) ?_
          refine VM_iast 37 hB dX7_expressed_91 mar37 rfl mfa37 (by first | omega | (simp [gup, aup]; omega)) (by show _ < (8 : Int); first | omega | (simp [gup, aup]; omega)) (by decide) ?_
          refine V_goto 160 dX7_expressed_92 (by decide) ?_
          refine V_iinc dX7_expressed_160 rfl (by decide) ?_
          refine V_goto 4 dX7_expressed_163 (by decide) ?_
          rw [gset_up]; have e : xNot (F (t - 1)) = (-7) := (by unfold xNot; first | (rw [if_pos (by omega)]; done) | (rw [if_neg (by omega), if_pos (by omega)]; done) | (rw [if_neg (by omega), if_neg (by omega)]; done)); simp only [e] at ih'; exact ih' _ _ _
      · rw [if_neg w2] at ih' hdp
        have w2' : g 7 (40 * d + 2 * k) ≠ 2 := w2
        by_cases w3 : xw g d k = 3
        · rw [if_pos w3] at ih' hdp
          rw [hdp] at ih'
          have w3' : g 7 (40 * d + 2 * k) = 3 := w3
          have := q2 w3
          refine V_iload_n dX7_expressed_4 rfl ?_
          refine V_aload_n dX7_expressed_5 rfl ?_
          refine VM_geta 8 dX7_expressed_6 q2614 (by decide) rfl ?_
          refine V_iload_n dX7_expressed_9 rfl ?_
          refine VM_ialdE 8 (g 8 d) hB dX7_expressed_10 mar8 rfl (by first | omega | (simp [gup, aup]; omega)) (by show _ < (4 : Int); first | omega | (simp [gup, aup]; omega)) (by decide) rfl ?_
          refine V_icmp_ge 166 dX7_expressed_11 (by decide) (by first | omega | exact hr_g _ _ | exact hrF _ | decide) (by first | omega | exact hr_g _ _ | exact hrF _ | decide) (fun c_11 => by exfalso; omega) (fun c_11 => ?_)
          refine V_aload_n dX7_expressed_14 rfl ?_
          refine VM_geta 7 dX7_expressed_15 q2613 (by decide) rfl ?_
          refine V_bipush dX7_expressed_18 (by decide) ?_
          refine V_iload_n dX7_expressed_20 rfl ?_
          refine V_imul dX7_expressed_21 ?_
          refine V_iconst dX7_expressed_22 ?_
          refine V_iload_n dX7_expressed_23 rfl ?_
          refine V_imul dX7_expressed_24 ?_
          refine V_iadd dX7_expressed_25 ?_
          refine VM_ialdE 7 (g 7 ((40 * d) + (2 * k))) hB dX7_expressed_26 mar7 rfl (by first | omega | (simp [gup, aup]; omega)) (by show _ < (160 : Int); first | omega | (simp [gup, aup]; omega)) (by decide) rfl ?_
          refine V_istore dX7_expressed_27 (by decide) ?_
          refine V_aload_n dX7_expressed_29 rfl ?_
          refine VM_geta 7 dX7_expressed_30 q2613 (by decide) rfl ?_
          refine V_bipush dX7_expressed_33 (by decide) ?_
          refine V_iload_n dX7_expressed_35 rfl ?_
          refine V_imul dX7_expressed_36 ?_
          refine V_iconst dX7_expressed_37 ?_
          refine V_iload_n dX7_expressed_38 rfl ?_
          refine V_imul dX7_expressed_39 ?_
          refine V_iadd dX7_expressed_40 ?_
          refine V_iconst dX7_expressed_41 ?_
          refine V_iadd dX7_expressed_42 ?_
          refine VM_ialdE 7 (g 7 (((40 * d) + (2 * k)) + 1)) hB dX7_expressed_43 mar7 rfl (by first | omega | (simp [gup, aup]; omega)) (by show _ < (160 : Int); first | omega | (simp [gup, aup]; omega)) (by decide) rfl ?_
          refine V_istore dX7_expressed_44 (by decide) ?_
          refine V_iload dX7_expressed_46 rfl ?_
          refine V_iconst dX7_expressed_48 ?_
          refine V_icmp_ne 95 dX7_expressed_49 (by decide) (by first | omega | exact hr_g _ _ | exact hrF _ | decide) (by first | omega | exact hr_g _ _ | exact hrF _ | decide) (fun c_49 => ?_) (fun c_49 => by exfalso; omega)
          refine V_iload dX7_expressed_95 rfl ?_
          refine V_iconst dX7_expressed_97 ?_
          refine V_icmp_ne 134 dX7_expressed_98 (by decide) (by first | omega | exact hr_g _ _ | exact hrF _ | decide) (by first | omega | exact hr_g _ _ | exact hrF _ | decide) (fun c_98 => by exfalso; omega) (fun c_98 => ?_)
          refine V_iinc dX7_expressed_101 rfl (by decide) ?_
          refine V_aload_n dX7_expressed_104 rfl ?_
          refine VM_geta 37 dX7_expressed_105 q2643 (by decide) rfl ?_
          refine V_iload_n dX7_expressed_108 rfl ?_
          refine V_iconst dX7_expressed_109 ?_
          refine V_isub dX7_expressed_110 ?_
          refine V_aload_n dX7_expressed_111 rfl ?_
          refine VM_geta 37 dX7_expressed_112 q2643 (by decide) rfl ?_
          refine V_iload_n dX7_expressed_115 rfl ?_
          refine V_iconst dX7_expressed_116 ?_
          refine V_isub dX7_expressed_117 ?_
          refine VM_ialdE 37 (F ((t + (-1)) - 1)) hB dX7_expressed_118 mar37 rfl (by first | omega | (simp [gup, aup]; omega)) (by show _ < (8 : Int); first | omega | (simp [gup, aup]; omega)) (by decide) rfl ?_
          refine V_aload_n dX7_expressed_119 rfl ?_
          refine VM_geta 37 dX7_expressed_120 q2643 (by decide) rfl ?_
          refine V_iload_n dX7_expressed_123 rfl ?_
          refine VM_ialdE 37 (F (t + (-1))) hB dX7_expressed_124 mar37 rfl (by first | omega | (simp [gup, aup]; omega)) (by show _ < (8 : Int); first | omega | (simp [gup, aup]; omega)) (by decide) rfl ?_
          refine V_iload dX7_expressed_125 rfl ?_
          refine VS_c3 (M' := mX7_worked) okX7_worked dX7_expressed_127 q2884 rfl rfl (Nat.le_of_ble_eq_true rfl) (d' := 1) (b1 := 0) (by decide) (by decide) (c_X7_worked (by first | omega | exact hrF _ | exact hr_g _ _) (by first | omega | exact hrF _ | exact hr_g _ _) (by first | omega | exact hr_g _ _ | exact hrF _ | decide) ?_)
          refine VM_iast 37 hB dX7_expressed_130 mar37 rfl mfa37 (by first | omega | (simp [gup, aup]; omega)) (by show _ < (8 : Int); first | omega | (simp [gup, aup]; omega)) (by decide) ?_
          refine V_goto 160 dX7_expressed_131 (by decide) ?_
          refine V_iinc dX7_expressed_160 rfl (by decide) ?_
          refine V_goto 4 dX7_expressed_163 (by decide) ?_
          rw [gset_up]; exact ih' _ _ _
        · rw [if_neg w3] at ih' hdp
          rw [hdp] at ih'
          have w3' : g 7 (40 * d + 2 * k) ≠ 3 := w3
          have q4' := q4 w2 w3
          by_cases w0 : xw g d k = 0
          · rw [if_pos w0] at ih'
            have w0' : g 7 (40 * d + 2 * k) = 0 := w0
            refine V_iload_n dX7_expressed_4 rfl ?_
            refine V_aload_n dX7_expressed_5 rfl ?_
            refine VM_geta 8 dX7_expressed_6 q2614 (by decide) rfl ?_
            refine V_iload_n dX7_expressed_9 rfl ?_
            refine VM_ialdE 8 (g 8 d) hB dX7_expressed_10 mar8 rfl (by first | omega | (simp [gup, aup]; omega)) (by show _ < (4 : Int); first | omega | (simp [gup, aup]; omega)) (by decide) rfl ?_
            refine V_icmp_ge 166 dX7_expressed_11 (by decide) (by first | omega | exact hr_g _ _ | exact hrF _ | decide) (by first | omega | exact hr_g _ _ | exact hrF _ | decide) (fun c_11 => by exfalso; omega) (fun c_11 => ?_)
            refine V_aload_n dX7_expressed_14 rfl ?_
            refine VM_geta 7 dX7_expressed_15 q2613 (by decide) rfl ?_
            refine V_bipush dX7_expressed_18 (by decide) ?_
            refine V_iload_n dX7_expressed_20 rfl ?_
            refine V_imul dX7_expressed_21 ?_
            refine V_iconst dX7_expressed_22 ?_
            refine V_iload_n dX7_expressed_23 rfl ?_
            refine V_imul dX7_expressed_24 ?_
            refine V_iadd dX7_expressed_25 ?_
            refine VM_ialdE 7 (g 7 ((40 * d) + (2 * k))) hB dX7_expressed_26 mar7 rfl (by first | omega | (simp [gup, aup]; omega)) (by show _ < (160 : Int); first | omega | (simp [gup, aup]; omega)) (by decide) rfl ?_
            refine V_istore dX7_expressed_27 (by decide) ?_
            refine V_aload_n dX7_expressed_29 rfl ?_
            refine VM_geta 7 dX7_expressed_30 q2613 (by decide) rfl ?_
            refine V_bipush dX7_expressed_33 (by decide) ?_
            refine V_iload_n dX7_expressed_35 rfl ?_
            refine V_imul dX7_expressed_36 ?_
            refine V_iconst dX7_expressed_37 ?_
            refine V_iload_n dX7_expressed_38 rfl ?_
            refine V_imul dX7_expressed_39 ?_
            refine V_iadd dX7_expressed_40 ?_
            refine V_iconst dX7_expressed_41 ?_
            refine V_iadd dX7_expressed_42 ?_
            refine VM_ialdE 7 (g 7 (((40 * d) + (2 * k)) + 1)) hB dX7_expressed_43 mar7 rfl (by first | omega | (simp [gup, aup]; omega)) (by show _ < (160 : Int); first | omega | (simp [gup, aup]; omega)) (by decide) rfl ?_
            refine V_istore dX7_expressed_44 (by decide) ?_
            refine V_iload dX7_expressed_46 rfl ?_
            refine V_iconst dX7_expressed_48 ?_
            refine V_icmp_ne 95 dX7_expressed_49 (by decide) (by first | omega | exact hr_g _ _ | exact hrF _ | decide) (by first | omega | exact hr_g _ _ | exact hrF _ | decide) (fun c_49 => ?_) (fun c_49 => by exfalso; omega)
            refine V_iload dX7_expressed_95 rfl ?_
            refine V_iconst dX7_expressed_97 ?_
            refine V_icmp_ne 134 dX7_expressed_98 (by decide) (by first | omega | exact hr_g _ _ | exact hrF _ | decide) (by first | omega | exact hr_g _ _ | exact hrF _ | decide) (fun c_98 => ?_) (fun c_98 => by exfalso; omega)
            refine V_aload_n dX7_expressed_134 rfl ?_
            refine VM_geta 37 dX7_expressed_135 q2643 (by decide) rfl ?_
            refine V_iload_n dX7_expressed_138 rfl ?_
            refine V_iload dX7_expressed_139 rfl ?_
            refine V_if_ne 149 dX7_expressed_141 (by decide) (by first | omega | exact hr_g _ _ | exact hrF _ | decide) (fun c_141 => by exfalso; omega) (fun c_141 => ?_)
            refine V_iload dX7_expressed_144 rfl ?_
            refine V_goto 156 dX7_expressed_146 (by decide) ?_
            refine VM_iast 37 hB dX7_expressed_156 mar37 rfl mfa37 (by first | omega | (simp [gup, aup]; omega)) (by show _ < (8 : Int); first | omega | (simp [gup, aup]; omega)) (by decide) ?_
            refine V_iinc dX7_expressed_157 rfl (by decide) ?_
            refine V_iinc dX7_expressed_160 rfl (by decide) ?_
            refine V_goto 4 dX7_expressed_163 (by decide) ?_
            rw [gset_up]; exact ih' _ _ _
          · rw [if_neg w0] at ih'
            have w0' : g 7 (40 * d + 2 * k) ≠ 0 := w0
            have q5 := q4'.2 w0
            have q5' : 0 ≤ g 7 (40 * d + 2 * k + 1) ∧ g 7 (40 * d + 2 * k + 1) < n := q5
            refine V_iload_n dX7_expressed_4 rfl ?_
            refine V_aload_n dX7_expressed_5 rfl ?_
            refine VM_geta 8 dX7_expressed_6 q2614 (by decide) rfl ?_
            refine V_iload_n dX7_expressed_9 rfl ?_
            refine VM_ialdE 8 (g 8 d) hB dX7_expressed_10 mar8 rfl (by first | omega | (simp [gup, aup]; omega)) (by show _ < (4 : Int); first | omega | (simp [gup, aup]; omega)) (by decide) rfl ?_
            refine V_icmp_ge 166 dX7_expressed_11 (by decide) (by first | omega | exact hr_g _ _ | exact hrF _ | decide) (by first | omega | exact hr_g _ _ | exact hrF _ | decide) (fun c_11 => by exfalso; omega) (fun c_11 => ?_)
            refine V_aload_n dX7_expressed_14 rfl ?_
            refine VM_geta 7 dX7_expressed_15 q2613 (by decide) rfl ?_
            refine V_bipush dX7_expressed_18 (by decide) ?_
            refine V_iload_n dX7_expressed_20 rfl ?_
            refine V_imul dX7_expressed_21 ?_
            refine V_iconst dX7_expressed_22 ?_
            refine V_iload_n dX7_expressed_23 rfl ?_
            refine V_imul dX7_expressed_24 ?_
            refine V_iadd dX7_expressed_25 ?_
            refine VM_ialdE 7 (g 7 ((40 * d) + (2 * k))) hB dX7_expressed_26 mar7 rfl (by first | omega | (simp [gup, aup]; omega)) (by show _ < (160 : Int); first | omega | (simp [gup, aup]; omega)) (by decide) rfl ?_
            refine V_istore dX7_expressed_27 (by decide) ?_
            refine V_aload_n dX7_expressed_29 rfl ?_
            refine VM_geta 7 dX7_expressed_30 q2613 (by decide) rfl ?_
            refine V_bipush dX7_expressed_33 (by decide) ?_
            refine V_iload_n dX7_expressed_35 rfl ?_
            refine V_imul dX7_expressed_36 ?_
            refine V_iconst dX7_expressed_37 ?_
            refine V_iload_n dX7_expressed_38 rfl ?_
            refine V_imul dX7_expressed_39 ?_
            refine V_iadd dX7_expressed_40 ?_
            refine V_iconst dX7_expressed_41 ?_
            refine V_iadd dX7_expressed_42 ?_
            refine VM_ialdE 7 (g 7 (((40 * d) + (2 * k)) + 1)) hB dX7_expressed_43 mar7 rfl (by first | omega | (simp [gup, aup]; omega)) (by show _ < (160 : Int); first | omega | (simp [gup, aup]; omega)) (by decide) rfl ?_
            refine V_istore dX7_expressed_44 (by decide) ?_
            refine V_iload dX7_expressed_46 rfl ?_
            refine V_iconst dX7_expressed_48 ?_
            refine V_icmp_ne 95 dX7_expressed_49 (by decide) (by first | omega | exact hr_g _ _ | exact hrF _ | decide) (by first | omega | exact hr_g _ _ | exact hrF _ | decide) (fun c_49 => ?_) (fun c_49 => by exfalso; omega)
            refine V_iload dX7_expressed_95 rfl ?_
            refine V_iconst dX7_expressed_97 ?_
            refine V_icmp_ne 134 dX7_expressed_98 (by decide) (by first | omega | exact hr_g _ _ | exact hrF _ | decide) (by first | omega | exact hr_g _ _ | exact hrF _ | decide) (fun c_98 => ?_) (fun c_98 => by exfalso; omega)
            refine V_aload_n dX7_expressed_134 rfl ?_
            refine VM_geta 37 dX7_expressed_135 q2643 (by decide) rfl ?_
            refine V_iload_n dX7_expressed_138 rfl ?_
            refine V_iload dX7_expressed_139 rfl ?_
            refine V_if_ne 149 dX7_expressed_141 (by decide) (by first | omega | exact hr_g _ _ | exact hrF _ | decide) (fun c_141 => ?_) (fun c_141 => by exfalso; omega)
            refine V_aload_n dX7_expressed_149 rfl ?_
            refine VM_geta 36 dX7_expressed_150 q2642 (by decide) rfl ?_
            refine V_iload dX7_expressed_153 rfl ?_
            refine VM_ialdE 36 (g 36 (g 7 (((40 * d) + (2 * k)) + 1))) hB dX7_expressed_155 mar36 rfl (by first | omega | (simp [gup, aup]; omega)) (by show _ < (12 : Int); first | omega | (simp [gup, aup]; omega)) (by decide) rfl ?_
            refine VM_iast 37 hB dX7_expressed_156 mar37 rfl mfa37 (by first | omega | (simp [gup, aup]; omega)) (by show _ < (8 : Int); first | omega | (simp [gup, aup]; omega)) (by decide) ?_
            refine V_iinc dX7_expressed_157 rfl (by decide) ?_
            refine V_iinc dX7_expressed_160 rfl (by decide) ?_
            refine V_goto 4 dX7_expressed_163 (by decide) ?_
            rw [gset_up]; exact ih' _ _ _
  have e0 : gset g 37 (xEv g (g 36) d (g 37) 0).1 = g := gset_self
  rw [e0] at L
  refine V_iconst dX7_expressed_0 ?_
  refine V_istore_n dX7_expressed_1 (by decide) ?_
  refine V_iconst dX7_expressed_2 ?_
  refine V_istore_n dX7_expressed_3 (by decide) ?_
  exact L _ _ _
end M14
