/-! THE REFERENCE'S METHODS, part 12: items -/
noncomputable def pItem1 (g : MG) : MG := pIf (g 18 0 = 3 ∧ g 19 0 = 91) (pOpens g) (pIf (g 18 0 = 3 ∧ g 19 0 = 93) (pCloses g) (pIf (g 18 0 = 1) (pNode g) (pFault g)))
noncomputable def pItem2 (g : MG) : MG := pIf (g 20 0 = -9) (pIf (g 18 0 = 3 ∧ g 19 0 = 59) (pNext g) (pFault g)) g
noncomputable def pItem (g : MG) : MG := pItem2 (pItem1 g)
/-- how deep a scope lies -/
def dpt (w : Int → Int) : Nat → Int → Int
  | 0, _ => 0
  | f + 1, k => if k = -9 then 0 else 1 + dpt w f (w k)
theorem dpt_0 {w : Int → Int} {f : Nat} : dpt w f (-9) = 0 := by cases f <;> rfl
theorem dpt_nn {w : Int → Int} : ∀ (f : Nat) (k : Int), 0 ≤ dpt w f k := by
  intro f
  induction f with
  | zero => intro k; exact Int.le_refl _
  | succ f ih =>
    intro k
    unfold dpt
    have := ih (w k)
    split <;> omega
/-- depth below n asks n + 1 steps at most, and sees w below n alone -/
theorem dpt_f {w w' : Int → Int} {n : Int} (hw : ∀ k, 0 ≤ k → k < n → (w k = -9 ∨ (0 ≤ w k ∧ w k < k))) (he : ∀ k, 0 ≤ k → k < n → w' k = w k) : ∀ (f f' : Nat) (k : Int), (k = -9 ∨ (0 ≤ k ∧ k < n)) → k < f → k < f' → dpt w f k = dpt w' f' k := by
  intro f
  induction f with
  | zero =>
    intro f' k hk h1 h2
    have : k = -9 := by omega
    subst this
    rw [dpt_0, dpt_0]
  | succ f ih =>
    intro f' k hk h1 h2
    by_cases c : k = -9
    · subst c; rw [dpt_0, dpt_0]
    · cases f' with
      | zero => omega
      | succ f' =>
        unfold dpt
        rw [if_neg c, if_neg c, he k (by omega) (by omega)]
        have := hw k (by omega) (by omega)
        rw [ih f' (w k) (by omega) (by omega) (by omega)]
def NI (g : MG) : Prop := PI g ∧ (0 ≤ g 23 0 ∧ g 23 0 ≤ 6) ∧ (0 ≤ g 24 0 ∧ g 24 0 ≤ 4) ∧ (∀ k, 0 ≤ k → k < g 27 0 → (g 25 k = -9 ∨ (0 ≤ g 25 k ∧ g 25 k < k))) ∧ g 31 0 = dpt (g 25) 8 (g 30 0) ∧ g 31 0 ≤ 4
/-- the text is gone through -/
def Adv (g g' : MG) : Prop := g 16 0 ≤ g' 16 0 ∧ (g' 18 0 ≠ 4 → g 16 0 < g' 16 0)
theorem Adv.tr {a b c : MG} (h1 : a 16 0 ≤ b 16 0) (h2 : Adv b c) : Adv a c := ⟨Int.le_trans h1 h2.1, fun h => by have := h2.2 h; omega⟩
theorem Adv.same {a b c : MG} (h : Adv a b) (e1 : c 16 = b 16) (e2 : c 18 = b 18) : Adv a c := by unfold Adv; rw [e1, e2]; exact h
theorem Adv.next {g : MG} (h : PI g) : Adv g (pNext g) := ⟨pN_le h, pN_lt h⟩
theorem NI.next {g : MG} (h : NI g) : NI (pNext g) := by
  obtain ⟨h1, h2, h3, h4, h5, h6⟩ := h
  refine ⟨h1.next, ?_⟩
  rw [pN_ne (k := 23) (by omega), pN_ne (k := 24) (by omega), pN_ne (k := 27) (by omega), pN_ne (k := 25) (by omega), pN_ne (k := 31) (by omega), pN_ne (k := 30) (by omega)]
  exact ⟨h2, h3, h4, h5, h6⟩
theorem NI.same {g g' : MG} (h : NI g) (h1 : PI g') (e23 : g' 23 0 = g 23 0) (e24 : g' 24 0 = g 24 0) (e27 : g' 27 = g 27) (e25 : g' 25 = g 25) (e31 : g' 31 = g 31) (e30 : g' 30 = g 30) : NI g' := by
  obtain ⟨_, h2, h3, h4, h5, h6⟩ := h
  refine ⟨h1, ?_⟩
  rw [e23, e24, e27, e25, e31, e30]
  exact ⟨h2, h3, h4, h5, h6⟩
theorem NI.fault {g : MG} (h : NI g) : NI (pFault g) := h.same h.1.fault rfl rfl rfl rfl rfl rfl
theorem fault_ne {g : MG} (h : PI g) : pFault g 20 0 ≠ -9 := by
  have := h.2.2.2.2.1
  simp [pFault, gup, aup]
  omega
/-- a scope that stands is opened -/
theorem NI.enter {g : MG} (h : NI g) {k : Int} (hk : 0 ≤ k ∧ k < g 27 0) (hw : g 25 k = g 30 0) (hd : g 31 0 < 4) : NI (gup (gup g 30 0 k) 31 0 (g 31 0 + 1)) := by
  obtain ⟨⟨b1, b2, b3, b4, b5, b6, b7⟩, h2, h3, h4, h5, h6⟩ := h
  have hn := dpt_nn (w := g 25) 8 (g 30 0)
  refine ⟨⟨(b1.up ⟨by omega, by omega⟩).up ⟨by omega, by omega⟩, b2, b3, b4, b5, Or.inr hk, b7⟩, h2, h3, h4, ?_, ?_⟩
  · show g 31 0 + 1 = dpt (g 25) 8 k
    have e : dpt (g 25) 8 k = if k = -9 then 0 else 1 + dpt (g 25) 7 (g 25 k) := rfl
    rw [e, if_neg (by omega), hw, h5, dpt_f h4 (fun _ _ _ => rfl) 7 8 (g 30 0) (by omega) (by omega) (by omega)]
    omega
  · show g 31 0 + 1 ≤ 4
    omega
/-- a new one -/
theorem NI.newS {g : MG} (h : NI g) (hs : g 27 0 < 6) : NI (gup (gup (gup g 25 (g 27 0) (g 30 0)) 26 (g 27 0) (g 19 0)) 27 0 (g 27 0 + 1)) ∧ True := by
  obtain ⟨⟨b1, b2, b3, b4, b5, b6, b7⟩, h2, h3, h4, h5, h6⟩ := h
  refine ⟨⟨⟨((b1.up (b1 30 0)).up (b1 19 0)).up ⟨by omega, by omega⟩, b2, b3, ?_, b5, ?_, ?_⟩, h2, h3, ?_, ?_, h6⟩, trivial⟩
  · show 0 ≤ g 27 0 + 1 ∧ g 27 0 + 1 ≤ 6; omega
  · show g 30 0 = -9 ∨ (0 ≤ g 30 0 ∧ g 30 0 < g 27 0 + 1); omega
  · intro k k1 k2
    show aup (g 25) (g 27 0) (g 30 0) k = -9 ∨ (0 ≤ aup (g 25) (g 27 0) (g 30 0) k ∧ aup (g 25) (g 27 0) (g 30 0) k < g 27 0 + 1)
    change k < g 27 0 + 1 at k2
    unfold aup
    split
    · omega
    · have := b7 k k1 (by omega); omega
  · intro k k1 k2
    show aup (g 25) (g 27 0) (g 30 0) k = -9 ∨ (0 ≤ aup (g 25) (g 27 0) (g 30 0) k ∧ aup (g 25) (g 27 0) (g 30 0) k < k)
    change k < g 27 0 + 1 at k2
    unfold aup
    split
    · omega
    · exact h4 k k1 (by omega)
  · show g 31 0 = dpt (aup (g 25) (g 27 0) (g 30 0)) 8 (g 30 0)
    rw [h5]
    refine dpt_f (n := g 27 0) h4 (fun k k1 k2 => ?_) 8 8 (g 30 0) (by omega) (by omega) (by omega)
    unfold aup
    rw [if_neg (by omega)]
theorem NI.leave {g : MG} (h : NI g) (ho : g 30 0 ≠ -9) : NI (gup (gup g 30 0 (g 25 (g 30 0))) 31 0 (g 31 0 - 1)) := by
  obtain ⟨⟨b1, b2, b3, b4, b5, b6, b7⟩, h2, h3, h4, h5, h6⟩ := h
  have ho2 : 0 ≤ g 30 0 ∧ g 30 0 < g 27 0 := by omega
  have hw := h4 _ ho2.1 ho2.2
  have hn := dpt_nn (w := g 25) 8 (g 30 0)
  have e : dpt (g 25) 8 (g 30 0) = if g 30 0 = -9 then 0 else 1 + dpt (g 25) 7 (g 25 (g 30 0)) := rfl
  rw [if_neg ho, dpt_f h4 (fun _ _ _ => rfl) 7 8 (g 25 (g 30 0)) (by omega) (by omega) (by omega)] at e
  refine ⟨⟨(b1.up (b1 _ _)).up ⟨by omega, by omega⟩, b2, b3, b4, b5, ?_, b7⟩, h2, h3, h4, ?_, ?_⟩
  · show g 25 (g 30 0) = -9 ∨ (0 ≤ g 25 (g 30 0) ∧ g 25 (g 30 0) < g 27 0); omega
  · show g 31 0 - 1 = dpt (g 25) 8 (g 25 (g 30 0)); omega
  · show g 31 0 - 1 ≤ 4; omega
theorem NI.opens2 {g : MG} (h : NI g) (hd : g 31 0 < 4) : NI (pOpens2 g) ∧ (pOpens2 g 20 0 = -9 → Adv g (pOpens2 g)) := by
  unfold pOpens2
  by_cases c : ¬ (g 18 0 = 1 ∧ nNB g (g 30 0) (g 19 0) = -9)
  · rw [pIf_t c]; exact ⟨h.fault, fun e => absurd e (fault_ne h.1)⟩
  · rw [pIf_f c]
    by_cases c2 : nSB g (g 30 0) (g 19 0) = -9
    · rw [pIf_t c2]
      by_cases c3 : ¬ g 27 0 < 6
      · rw [pIf_t c3]; exact ⟨h.fault, fun e => absurd e (fault_ne h.1)⟩
      · rw [pIf_f c3]
        have c3' := Classical.not_not.mp c3
        have h1 := (h.newS c3').1
        have b4 := h.1.2.2.2.1
        have h2 := h1.enter (k := g 27 0) (by show 0 ≤ g 27 0 ∧ g 27 0 < g 27 0 + 1; omega) (by show aup (g 25) (g 27 0) (g 30 0) (g 27 0) = g 30 0; simp [aup]) hd
        exact ⟨h2.next, fun _ => (Adv.next h2.1).tr (Int.le_refl _)⟩
    · rw [pIf_f c2]
      have hin := lastI_in (p := fun n => decide (g 25 n = g 30 0 ∧ g 26 n = g 19 0)) h.1.2.2.2.1.1
      change nSB g (g 30 0) (g 19 0) = -9 ∨ (0 ≤ nSB g (g 30 0) (g 19 0) ∧ nSB g (g 30 0) (g 19 0) < g 27 0 ∧ _) at hin
      rcases hin with a | ⟨a1, a2, a3⟩
      · exact absurd a c2
      · have h2 := h.enter ⟨a1, a2⟩ (of_decide_eq_true a3).1 hd
        exact ⟨h2.next, fun _ => (Adv.next h2.1).tr (Int.le_refl _)⟩
theorem NI.opens {g : MG} (h : NI g) : NI (pOpens g) ∧ (pOpens g 20 0 = -9 → Adv g (pOpens g)) := by
  unfold pOpens
  by_cases c : ¬ g 31 0 < 4
  · rw [pIf_t c]; exact ⟨h.fault, fun e => absurd e (fault_ne h.1)⟩
  · rw [pIf_f c]
    have := h.next.opens2 (by rw [pN_ne (by omega)]; exact Classical.not_not.mp c)
    exact ⟨this.1, fun e => (this.2 e).tr (pN_le h.1)⟩
theorem NI.closes {g : MG} (h : NI g) : NI (pCloses g) ∧ (pCloses g 20 0 = -9 → Adv g (pCloses g)) := by
  unfold pCloses
  by_cases c : g 30 0 = -9
  · rw [pIf_t c]; exact ⟨h.fault, fun e => absurd e (fault_ne h.1)⟩
  · rw [pIf_f c]
    have h2 := h.leave c
    exact ⟨h2.next, fun _ => (Adv.next h2.1).tr (Int.le_refl _)⟩
theorem path_adv : ∀ (k : Nat) (g : MG) (sc : Int), PI g → g 15 0 - g 16 0 < k → (pPathN k g sc).1 20 0 = -9 → Adv g (pPathN k g sc).1 := by
  intro k
  induction k with
  | zero =>
    intro g sc h hk
    have := h.2.1
    omega
  | succ k ih =>
    intro g sc h hk
    unfold pPathN
    by_cases c1 : ¬ (g 18 0 = 1 ∧ (nNB g sc (g 19 0) ≠ -9 ∨ nSB g sc (g 19 0) ≠ -9))
    · rw [pIf_t c1]; exact fun e => absurd e (fault_ne h)
    · rw [pIf_f c1]
      by_cases c2 : nNB g sc (g 19 0) ≠ -9
      · rw [pIf_t c2]; exact fun _ => Adv.next h
      · rw [pIf_f c2]
        by_cases c3 : ¬ (pNext g 18 0 = 3 ∧ pNext g 19 0 = 46)
        · rw [pIf_t c3]; exact fun e => absurd e (fault_ne h.next)
        · rw [pIf_f c3]
          have c3' := Classical.not_not.mp c3
          have l1 := pN_lt h (by omega)
          have l2 := pN_le h.next
          have e15 : pNext (pNext g) 15 0 = g 15 0 := by rw [pN_ne (by omega), pN_ne (by omega)]
          exact fun e => (ih _ _ h.next.next (by omega) e).tr (by omega)
theorem whole_16 {g : MG} : pWhole g 16 = g 16 ∧ pWhole g 18 = g 18 := ⟨pWh_ne (by omega), pWh_ne (by omega)⟩
theorem cls_adv {a : MG} : ∀ (k : Nat) (g : MG), EI 1 g → Adv a g → Adv a (pCls k g) := by
  intro k
  induction k with
  | zero => intro g _ h; exact h
  | succ k ih =>
    intro g hE h
    unfold pCls
    by_cases c1 : g 18 0 = 3 ∧ g 19 0 = 41 ∧ 0 < g 33 0
    · rw [pIf_t c1]
      have hw := (hE.close c1.2.2).whole (by omega)
      refine ih _ hw.next ((Adv.next hw.1).tr ?_)
      rw [whole_16.1]
      exact h.1
    · rw [pIf_f c1]; exact h
theorem marks_le : ∀ (k : Nat) (g : MG), EI 0 g → g 16 0 ≤ pMarks k g 16 0 := by
  intro k
  induction k with
  | zero => intro g _; exact Int.le_refl _
  | succ k ih =>
    intro g h
    unfold pMarks
    by_cases c1 : g 18 0 = 3 ∧ (g 19 0 = 33 ∨ g 19 0 = 40)
    · rw [pIf_t c1]
      by_cases c2 : g 35 0 < 6
      · rw [pIf_t c2]
        have hm := h.mark c2 (h.1.1 _ _)
        refine Int.le_trans ?_ (ih _ hm.next)
        refine Int.le_trans ?_ (pN_le hm.1)
        rw [pW_ne (by omega), gup_ne (by omega)]
        exact Int.le_refl _
      · rw [pIf_f c2]; exact Int.le_refl _
    · rw [pIf_f c1]; exact Int.le_refl _
theorem term_adv {g : MG} (h : EI 0 g) (e : pTerm g 20 0 = -9) : Adv g (pTerm g) := by
  have h5 := h.2.2.2.2.1
  unfold pTerm at e ⊢
  by_cases c1 : ¬ ((g 18 0 = 2 ∨ g 18 0 = 1) ∧ g 34 0 < 6)
  · rw [pIf_t c1] at e; exact absurd e (fault_ne h.1)
  · rw [pIf_f c1] at e ⊢
    have ht := (Classical.not_not.mp c1).2
    by_cases c2 : g 18 0 = 2
    · rw [pIf_t c2] at e ⊢
      have := h.term ht (w := 0) (x := g 19 0) (by decide) (h.1.1 _ _)
      refine (Adv.next this.1).tr ?_
      rw [pE_ne (by omega), gup_ne (by omega)]
      exact Int.le_refl _
    · rw [pIf_f c2] at e ⊢
      have hIg : PI (gup g 34 0 (g 34 0 + 1)) := h.1.up (by omega) ⟨by omega, by omega⟩
      have hb := h.1.2.1
      by_cases c3 : (pPath (gup g 34 0 (g 34 0 + 1))).1 20 0 = -9
      · rw [pIf_t c3]
        have := path_adv 161 _ (-9) hIg (by show g 15 0 - g 16 0 < _; omega) c3
        exact (this.same (pE_ne (by omega)) (pE_ne (by omega))).tr (Int.le_refl _)
      · rw [pIf_f c3] at e; exact absurd e c3
theorem begin_adv {g : MG} (h : EI 0 g) (e : pBegin g 20 0 = -9) : Adv g (pBegin g) := by
  have hm := EI.marks 7 g h
  unfold pBegin at e ⊢
  by_cases c : pMarks 7 g 20 0 = -9
  · rw [pIf_t c] at e ⊢
    exact (term_adv hm e).tr (marks_le 7 g h)
  · rw [pIf_f c] at e; exact absurd e c
theorem exprN_adv : ∀ (k : Nat) (g : MG), EI 0 g → g 20 0 = -9 → 6 - g 34 0 < k → pExprN k g 20 0 = -9 → Adv g (pExprN k g) := by
  intro k
  induction k with
  | zero =>
    intro g h _ hk
    have := h.2.2.2.2.1
    omega
  | succ k ih =>
    intro g h hf hk e
    unfold pExprN at e ⊢
    have hb := h.begin
    by_cases c : pBegin g 20 0 = -9
    · rw [pIf_t c] at e ⊢
      have hE := (hb.2 c).1
      have ht := (hb.2 c).2
      have hw := hE.whole (by omega)
      have hc := EI.cls 20 _ hw
      have fc : pCls 20 (pWhole (pBegin g)) 20 0 = -9 := by rw [pCls_ne (by omega), pWh_ne (by omega)]; exact c
      have tc : pCls 20 (pWhole (pBegin g)) 34 0 = g 34 0 + 1 := by rw [pCls_ne (by omega), pWh_ne (by omega)]; exact ht
      have ha : Adv g (pCls 20 (pWhole (pBegin g))) := cls_adv 20 _ hw ((begin_adv h c).same whole_16.1 whole_16.2)
      by_cases cb : pBt (pCls 20 (pWhole (pBegin g)))
      · rw [pIf_t cb] at e ⊢
        have hs := hc.sign (hc.1.1 _ _)
        refine (ih _ hs.next (by rw [pN_ne (by omega), pW_ne (by omega)]; exact fc) (by rw [pN_ne (by omega), pW_ne (by omega), tc]; omega) e).tr ?_
        refine Int.le_trans ha.1 ?_
        have := pN_le hs.1
        rw [pW_ne (by omega)] at this
        exact this
      · rw [pIf_f cb] at e ⊢
        unfold pEnd at e ⊢
        by_cases ce : pCls 20 (pWhole (pBegin g)) 33 0 = 0 ∧ pCls 20 (pWhole (pBegin g)) 18 0 = 3 ∧ pCls 20 (pWhole (pBegin g)) 19 0 = 59
        · rw [pIf_t ce]; exact ha
        · rw [pIf_f ce] at e; exact absurd e (fault_ne hc.1)
    · rw [pIf_f c] at e; exact absurd e c
theorem expr_adv {g : MG} (h : PI g) (hd : 0 ≤ g 24 0 ∧ g 24 0 ≤ 3) (hf : g 20 0 = -9) (e : pExpr g 20 0 = -9) : Adv g (pExpr g) :=
  (exprN_adv 8 _ (EI.start h hd) (by simp [gup_rd]; exact hf) (by simp [gup_rd]) e).tr (Int.le_refl _)
