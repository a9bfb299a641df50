/-! ARRAYLIST: a list of references, none of them null -/
/-- what the array of an ArrayList holds -/
def alA (E : Ev) (ea : Nat) (l : List Nat) (hh : AH) : Prop := (l = [] ∧ ea = E.2.2.2 1) ∨ ∃ (n : Nat) (g : Int → Option Nat), hh ea = some (oR 3 n g) ∧ l.length ≤ n ∧ 0 < n ∧ n ≤ 1000 ∧ ∀ i : Nat, i < n → g i = l[i]?
/-- what an ArrayList's own cells say: counter of changes mc, elements l -/
def alP (E : Ev) (a : Nat) (mc : Int) (l : List Nat) (hh : AH) : Prop := ∃ ea : Nat, hh a = some (oO 26 [vI mc, .ref ea, vI l.length]) ∧ alA E ea l hh
def cAL (E : Ev) (a : Nat) (mc : Int) (l : List Nat) : Ao := oC 26 (fold (alP E a mc l))
/-- a class whose things may lie in an Object array -/
def elC (ci : Nat) : Prop := ci ≠ 26 ∧ ∃ (CV : String) (TV : u_T) (NV : Nat), clA[ci]? = some (CV, TV, NV) ∧ Cond.castable CV "java/lang/Object" ∈ lw_nt
theorem cst.e1 {E : Ev} : cst E (E.2.2.2 1) (.inl (13, 0, .inr (fun _ => none))) := Or.inr (Or.inr (Or.inl ⟨Or.inl rfl, rfl⟩))
theorem cst.n26 {E : Ev} {a ci : Nat} (n : ci ≠ 32) : ∀ fs, ¬ cst E a (.inr (ci, fs)) := by
  rintro fs (⟨z, -, -, -, e⟩ | ⟨-, e⟩ | ⟨-, e⟩ | ⟨-, e⟩)
  · cases e; exact n rfl
  · cases e
  · cases e
  · cases e
section AL
variable {E : Ev} {h : AH} {Q : Value → AH → Prop} {X : Nat → AH → Prop} {a : Nat} {mc : Int} {l : List Nat}
theorem clsE.new {x y ci : Nat} {c : Ao} (hx : h x = none) (e : clsE E h y ci) : clsE E (hset h x c) y ci := by
  rcases e with (⟨fs, e⟩ | ⟨Φ, e⟩) | e
  · exact Or.inl (Or.inl ⟨fs, hset_old hx e⟩)
  · exact Or.inl (Or.inr ⟨Φ, hset_old hx e⟩)
  · exact Or.inr e
theorem clsE.put {x y ci : Nat} {c d : Ao} (hx : h x = some d) (n : Nat.beq (ci + 2) (tagA d) = false) (e : clsE E h y ci) : clsE E (hset h x c) y ci := by
  rcases e with (⟨fs, e⟩ | ⟨Φ, e⟩) | e
  · exact Or.inl (Or.inl ⟨fs, (hset_ne (ne_t e hx n)).trans e⟩)
  · exact Or.inl (Or.inr ⟨Φ, (hset_ne (ne_t e hx n)).trans e⟩)
  · exact Or.inr e
theorem clsE.inn {hh : AH} {y ci : Nat} {d : Ao} (D : dj h a hh) (ha : h a = some d) (n : Nat.beq (ci + 2) (tagA d) = false) (e : clsE E h y ci) : clsE E (ovl h a hh) y ci := by
  rcases e with (⟨fs, e⟩ | ⟨Φ, e⟩) | e
  · exact Or.inl (Or.inl ⟨fs, ovl_old D (ne_t e ha n) e⟩)
  · exact Or.inl (Or.inr ⟨Φ, ovl_old D (ne_t e ha n) e⟩)
  · exact Or.inr e
theorem clsE.cv {h' : AH} {y ci : Nat} (hs : ∀ fs, h y = some (oO ci fs) → h' y = some (oO ci fs)) (hs' : ∀ Φ, h y = some (oC ci Φ) → h' y = some (oC ci Φ)) (e : clsE E h y ci) : clsE E h' y ci := by
  rcases e with (⟨fs, e⟩ | ⟨Φ, e⟩) | e
  · exact Or.inl (Or.inl ⟨fs, hs fs e⟩)
  · exact Or.inl (Or.inr ⟨Φ, hs' Φ e⟩)
  · exact Or.inr e
theorem elC.n {ci : Nat} (h : elC ci) : Nat.beq (ci + 2) (26 + 2) = false := by
  cases e : Nat.beq (ci + 2) (26 + 2) with
  | false => rfl
  | true => exact absurd (Nat.add_right_cancel (Nat.eq_of_beq_eq_true e)) h.1
theorem zShr_1 : ∀ n : Nat, n ≤ 1000 → zShr n 1 = ((n / 2 : Nat) : Int) := by decide +kernel
theorem c_J2_init (K : Q .null h) : V E mJ2_init 1 0 0 [some (.ref a)] [] h Q X := by
  refine V_aload_n dJ2_init_0 rfl ?_
  refine V_objI dJ2_init_1 q260 (Nat.le_of_ble_eq_true rfl) (by first | decide | omega) ?_
  exact V_vret dJ2_init_4 rfl (by exact K)
theorem c_J3_init {fs : List Value} {x y : Value} (ha : h a = some (oO 26 [vI 0, x, y])) (K : Q .null (hset h a (oO 26 [vI 0, x, y]))) : V E mJ3_init 2 0 0 [some (.ref a)] [] h Q X := by
  refine V_aload_n dJ3_init_0 rfl ?_
  refine V_invI (M' := mJ2_init) (As := []) (rest := []) okJ2_init dJ3_init_1 q257 rfl rfl rfl (Nat.le_of_ble_eq_true rfl) (d' := 1) (b1 := 0) (by first | decide | omega) (by first | decide | omega) (c_J2_init ?_)
  refine V_aload_n dJ3_init_4 rfl ?_
  refine V_iconst dJ3_init_5 ?_
  refine V_putfE (fs' := [vI 0, x, y]) okJ4 0 dJ3_init_6 q267 (by decide) rfl ha (by decide) (Nat.le_of_ble_eq_true rfl) rfl rfl rfl rfl ?_
  exact V_vret dJ3_init_9 rfl (by exact K)
theorem c_J4_init (ha : h a = some (oO 26 [vI 0, .null, vI 0])) (K : Q .null (hset h a (cAL E a 0 []))) : V E mJ4_init 3 0 0 [some (.ref a)] [] h Q X := by
  refine V_aload_n dJ4_init_0 rfl ?_
  refine V_invI (M' := mJ3_init) (As := []) (rest := []) okJ3_init dJ4_init_1 q254 rfl rfl rfl (Nat.le_of_ble_eq_true rfl) (d' := 2) (b1 := 0) (by first | decide | omega) (by first | decide | omega) (c_J3_init (fs := []) ha ?_)
  refine V_aload_n dJ4_init_4 rfl ?_
  refine V_gets (v := .ref (E.2.2.2 1)) dJ4_init_5 q261 (List.mem_of_getElem? (i := 2) rfl) ?_
  refine V_putfE (fs' := [vI 0, .ref (E.2.2.2 1), vI 0]) okJ4 1 dJ4_init_8 q263 (by decide) rfl hset_eq (by decide) (Nat.le_of_ble_eq_true rfl) rfl rfl rfl hset_hset ?_
  refine V_pack (Ψ := alP E a 0 []) ⟨_, hset_eq, Or.inl ⟨rfl, rfl⟩⟩ ?_
  exact V_vret dJ4_init_11 rfl (by exact K)
theorem c_J4_size (ha : h a = some (cAL E a mc l)) (K : Q (vI l.length) h) : V E mJ4_size 0 0 0 [some (.ref a)] [] h Q X := by
  refine V_open ha (fun hh P D => ?_)
  obtain ⟨ea, e1, e2⟩ := P
  refine V_aload_n dJ4_size_0 rfl ?_
  refine V_getf okJ4 2 dJ4_size_1 q266 (by decide) (ovl_in e1) rfl ?_
  refine V_shut ha ⟨ea, e1, e2⟩ e1 D ?_
  exact V_iret dJ4_size_4 rfl (by exact K)
/-- Arrays.copyOf -/
theorem c_J29_copyOf_2 {ea n ci b : Nat} {m : Int} {g : Int → Option Nat} (ha : h ea = some (oR 3 n g)) (hn : n ≤ 1000) (hm : 0 ≤ m ∧ m ≤ 1000) (hc : elC ci) (hel : ∀ i : Int, 0 ≤ i → i < m → i < n → ∀ y, g i = some y → clsE E h y ci) (hb : m.toNat + 1 ≤ b) (K : ∀ x, h x = none → Q (.ref x) (hset h x (oR 3 m.toNat (oCpy g (fun _ => none) 0 0 (iMin n m))))) : V E mJ29_copyOf_2 2 b 0 [some (.ref ea), some (vI m), some (.ref (E.2.2.2 10)), none] [] h Q X := by
  obtain ⟨hc1, CV, TV, NV, hc2, hc3⟩ := hc
  have hmn : 0 ≤ iMin n m ∧ iMin n m ≤ n ∧ iMin n m ≤ m := by unfold iMin; split <;> omega
  refine V_aload_n dJ29_copyOf_2_0 rfl ?_
  refine V_ldcM (mi := (E.2.2.2 10)) dJ29_copyOf_2_1 q1465 (List.mem_of_getElem? (i := 0) rfl) ?_
  refine V_acmp_ne (rx := (some (E.2.2.2 10))) (ry := (some (E.2.2.2 10))) 13 dJ29_copyOf_2_3 (by decide) (fun c_3 => absurd rfl c_3) (fun _ => ?_)
  refine V_iload_n dJ29_copyOf_2_6 rfl ?_
  refine V_anewO dJ29_copyOf_2_7 q1467 (by omega) (by omega) (by first | decide | omega) (fun x hx => ?_)
  refine V_goto 24 dJ29_copyOf_2_10 (by decide) ?_
  refine V_astore_n dJ29_copyOf_2_24 (by decide) ?_
  refine V_aload_n dJ29_copyOf_2_25 rfl ?_
  refine V_iconst dJ29_copyOf_2_26 ?_
  refine V_aload_n dJ29_copyOf_2_27 rfl ?_
  refine V_iconst dJ29_copyOf_2_28 ?_
  refine V_aload_n dJ29_copyOf_2_29 rfl ?_
  refine V_alenR dJ29_copyOf_2_30 ((hset_ne (ne_f ha hx)).trans ha) rfl ?_
  refine V_iload_n dJ29_copyOf_2_31 rfl ?_
  refine V_mmin dJ29_copyOf_2_32 q1468 (by constructor <;> omega) (by constructor <;> omega) (Nat.le_of_ble_eq_true rfl) (by first | decide | omega) ?_
  refine V_copyR (ci := ci) dJ29_copyOf_2_35 q1469 q136 ((hset_ne (ne_f ha hx)).trans ha) hset_eq hc2 hc3 (fun i i0 i1 y hy => (hel i i0 (by omega) (by omega) y (by rw [Int.zero_add] at hy; exact hy)).new hx) (by omega) (by omega) (by omega) (by omega) (by omega) (by omega) (by omega) (Nat.le_of_ble_eq_true rfl) (by decide) ?_
  refine V_heq hset_hset ?_
  refine V_aload_n dJ29_copyOf_2_38 rfl ?_
  exact V_aret dJ29_copyOf_2_39 rfl rfl (Or.inr ⟨_, rfl⟩) (by exact K x hx)
theorem c_J29_copyOf {ea n ci b : Nat} {m : Int} {g : Int → Option Nat} (ha : h ea = some (oR 3 n g)) (hn : n ≤ 1000) (hm : 0 ≤ m ∧ m ≤ 1000) (hc : elC ci) (hel : ∀ i : Int, 0 ≤ i → i < m → i < n → ∀ y, g i = some y → clsE E h y ci) (hb : m.toNat + 1 ≤ b) (K : ∀ x, h x = none → Q (.ref x) (hset h x (oR 3 m.toNat (oCpy g (fun _ => none) 0 0 (iMin n m))))) : V E mJ29_copyOf 3 b 0 [some (.ref ea), some (vI m)] [] h Q X := by
  refine V_aload_n dJ29_copyOf_0 rfl ?_
  refine V_iload_n dJ29_copyOf_1 rfl ?_
  refine V_aload_n dJ29_copyOf_2 rfl ?_
  refine V_getCA dJ29_copyOf_3 q1424 ha (Nat.le_of_ble_eq_true rfl) (by first | decide | omega) ?_
  refine V_invS (M' := mJ29_copyOf_2) (As := [.ref ea, vI m, .ref (E.2.2.2 10)]) (rest := []) okJ29_copyOf_2 dJ29_copyOf_6 q1462 rfl rfl rfl (Nat.le_of_ble_eq_true rfl) (d' := 2) (b1 := b) (by first | decide | omega) (by first | decide | omega) (c_J29_copyOf_2 ha hn hm hc hel hb (fun x hx => ?_))
  exact V_aret dJ29_copyOf_9 rfl rfl (Or.inr ⟨_, rfl⟩) (by exact K x hx)
/-- of an empty list's array -/
theorem c_J29_copyOfK {b : Nat} (hb : 1 ≤ b) (K : ∀ x, h x = none → Q (.ref x) (hset h x (oR 3 0 (fun _ => none)))) : V E mJ29_copyOf 3 b 0 [some (.ref (E.2.2.2 1)), some (vI 0)] [] h Q X := by
  have main : ∀ (Q : Value → AH → Prop), (∀ x, h x = none → Q (.ref x) (hset h x (oR 3 0 (fun _ => none)))) → V E mJ29_copyOf_2 2 b 0 [some (.ref (E.2.2.2 1)), some (vI 0), some (.ref (E.2.2.2 10)), none] [] h Q X := by
    intro Q K
    refine V_aload_n dJ29_copyOf_2_0 rfl ?_
    refine V_ldcM (mi := (E.2.2.2 10)) dJ29_copyOf_2_1 q1465 (List.mem_of_getElem? (i := 0) rfl) ?_
    refine V_acmp_ne (rx := (some (E.2.2.2 10))) (ry := (some (E.2.2.2 10))) 13 dJ29_copyOf_2_3 (by decide) (fun c_3 => absurd rfl c_3) (fun _ => ?_)
    refine V_iload_n dJ29_copyOf_2_6 rfl ?_
    refine V_anewO dJ29_copyOf_2_7 q1467 (by omega) (by omega) (by first | decide | omega) (fun x hx => ?_)
    refine V_goto 24 dJ29_copyOf_2_10 (by decide) ?_
    refine V_astore_n dJ29_copyOf_2_24 (by decide) ?_
    refine V_aload_n dJ29_copyOf_2_25 rfl ?_
    refine V_iconst dJ29_copyOf_2_26 ?_
    refine V_aload_n dJ29_copyOf_2_27 rfl ?_
    refine V_iconst dJ29_copyOf_2_28 ?_
    refine V_aload_n dJ29_copyOf_2_29 rfl ?_
    refine V_alenK dJ29_copyOf_2_30 cst.e1 rfl ?_
    refine V_iload_n dJ29_copyOf_2_31 rfl ?_
    refine V_mmin dJ29_copyOf_2_32 q1468 (by first | omega | decide) (by first | omega | decide) (Nat.le_of_ble_eq_true rfl) (by first | decide | omega) ?_
    refine V_copyR0 dJ29_copyOf_2_35 q1469 q136 cst.e1 hset_eq (Nat.le_of_ble_eq_true rfl) (by decide) ?_
    refine V_aload_n dJ29_copyOf_2_38 rfl ?_
    exact V_aret dJ29_copyOf_2_39 rfl rfl (Or.inr ⟨_, rfl⟩) (by exact K x hx)
  refine V_aload_n dJ29_copyOf_0 rfl ?_
  refine V_iload_n dJ29_copyOf_1 rfl ?_
  refine V_aload_n dJ29_copyOf_2 rfl ?_
  refine V_getCK dJ29_copyOf_3 q1424 cst.e1 (Nat.le_of_ble_eq_true rfl) (by first | decide | omega) ?_
  refine V_invS (M' := mJ29_copyOf_2) (As := [.ref (E.2.2.2 1), vI 0, .ref (E.2.2.2 10)]) (rest := []) okJ29_copyOf_2 dJ29_copyOf_6 q1462 rfl rfl rfl (Nat.le_of_ble_eq_true rfl) (d' := 2) (b1 := b) (by first | decide | omega) (by first | decide | omega) (main _ (fun x hx => ?_))
  exact V_aret dJ29_copyOf_9 rfl rfl (Or.inr ⟨_, rfl⟩) (by exact K x hx)
theorem c_J4_grow_2a {sz m : Int} {b : Nat} (h0 : h a = some (oO 26 [vI mc, .ref (E.2.2.2 1), vI sz])) (hm : 0 ≤ m ∧ m ≤ 1000) (hb : (iMax 10 m).toNat + 1 ≤ b) (K : ∀ x, h x = none → Q (.ref x) (hset (hset h x (oR 3 (iMax 10 m).toNat (fun _ => none))) a (oO 26 [vI mc, .ref x, vI sz]))) : V E mJ4_grow_2 4 b 0 [some (.ref a), some (vI m), none, none] [] h Q X := by
  have hmx : 0 ≤ iMax 10 m ∧ iMax 10 m ≤ 1000 := by unfold iMax; split <;> omega
  refine V_aload_n dJ4_grow_2_0 rfl ?_
  refine V_getf okJ4 1 dJ4_grow_2_1 q263 (by decide) h0 rfl ?_
  refine V_alenK dJ4_grow_2_4 cst.e1 rfl ?_
  refine V_istore_n dJ4_grow_2_5 (by decide) ?_
  refine V_iload_n dJ4_grow_2_6 rfl ?_
  refine V_if_gt 20 dJ4_grow_2_7 (by decide) (by first | decide | (constructor <;> omega)) (fun c_7 => absurd c_7 (by decide)) (fun c_7 => ?_)
  refine V_aload_n dJ4_grow_2_10 rfl ?_
  refine V_getf okJ4 1 dJ4_grow_2_11 q263 (by decide) h0 rfl ?_
  refine V_gets (v := .ref (E.2.2.2 1)) dJ4_grow_2_14 q261 (List.mem_of_getElem? (i := 2) rfl) ?_
  refine V_acmp_eq (rx := (some (E.2.2.2 1))) (ry := (some (E.2.2.2 1))) 45 dJ4_grow_2_17 (by decide) (fun _ => ?_) (fun c_17 => absurd rfl c_17)
  refine V_aload_n dJ4_grow_2_45 rfl ?_
  refine V_bipush dJ4_grow_2_46 (by decide) ?_
  refine V_iload_n dJ4_grow_2_48 rfl ?_
  refine V_mmax dJ4_grow_2_49 q1472 (by first | decide | (constructor <;> omega)) (by first | decide | (constructor <;> omega)) (Nat.le_of_ble_eq_true rfl) (by first | decide | omega) ?_
  refine V_anewO dJ4_grow_2_52 q1473 (by omega) (by omega) (by first | decide | omega) (fun x hx => ?_)
  refine V_dup_x1 dJ4_grow_2_55 rfl rfl ?_
  refine V_putfE (fs' := [vI mc, .ref x, vI sz]) okJ4 1 dJ4_grow_2_56 q263 (by decide) rfl ((hset_ne (ne_f h0 hx)).trans h0) (by decide) (Nat.le_of_ble_eq_true rfl) rfl rfl rfl rfl ?_
  exact V_aret dJ4_grow_2_59 rfl rfl (Or.inr ⟨_, rfl⟩) (by exact K x hx)
theorem c_J4_grow_2b {ea n ci b : Nat} {sz m : Int} {g : Int → Option Nat} (h0 : h a = some (oO 26 [vI mc, .ref ea, vI sz])) (h1 : h ea = some (oR 3 n g)) (hn : 0 < n ∧ n ≤ 600) (hm : n < m ∧ m ≤ 660) (hc : elC ci) (hel : ∀ i : Int, 0 ≤ i → i < n → ∀ y, g i = some y → clsE E h y ci) (hb : 2 * m.toNat + 2 ≤ b) (K : ∀ (x n' : Nat), h x = none → m ≤ n' → n' ≤ 1000 → Q (.ref x) (hset (hset h x (oR 3 n' (oCpy g (fun _ => none) 0 0 n))) a (oO 26 [vI mc, .ref x, vI sz]))) : V E mJ4_grow_2 4 b 0 [some (.ref a), some (vI m), none, none] [] h Q X := by
  have hz : zShr n 1 = ((n / 2 : Nat) : Int) := zShr_1 n (by omega)
  have hmx : m - n ≤ iMax (m - n) (zShr n 1) ∧ iMax (m - n) (zShr n 1) ≤ m ∧ (n : Int) + iMax (m - n) (zShr n 1) ≤ 1000 := by unfold iMax; rw [hz]; split <;> omega
  have hmi : iMin n (n + iMax (m - n) (zShr n 1)) = n := by unfold iMin; rw [if_pos (by omega)]
  refine V_aload_n dJ4_grow_2_0 rfl ?_
  refine V_getf okJ4 1 dJ4_grow_2_1 q263 (by decide) h0 rfl ?_
  refine V_alenR dJ4_grow_2_4 h1 rfl ?_
  refine V_istore_n dJ4_grow_2_5 (by decide) ?_
  refine V_iload_n dJ4_grow_2_6 rfl ?_
  refine V_if_gt 20 dJ4_grow_2_7 (by decide) (by first | decide | (constructor <;> omega)) (fun c_7 => ?_) (fun c_7 => by exfalso; omega)
  refine V_iload_n dJ4_grow_2_20 rfl ?_
  refine V_iload_n dJ4_grow_2_21 rfl ?_
  refine V_iload_n dJ4_grow_2_22 rfl ?_
  refine V_isub dJ4_grow_2_23 ?_
  refine V_iload_n dJ4_grow_2_24 rfl ?_
  refine V_iconst dJ4_grow_2_25 ?_
  refine V_ishr dJ4_grow_2_26 ?_
  refine V_invS (M' := mJ12_newLength) (As := [vI (n : Nat), vI (m - (n : Nat)), vI (zShr (n : Nat) 1)]) (rest := []) okJ12_newLength dJ4_grow_2_27 q1413 rfl rfl rfl (Nat.le_of_ble_eq_true rfl) (d' := 2) (b1 := 0) (by first | decide | omega) (by first | decide | omega) (c_J12_newLength (a := n) (b := m - n) (c := zShr n 1) (by omega) (by omega) (by rw [hz]; omega) (by omega) ?_)
  refine V_istore_n dJ4_grow_2_30 (by decide) ?_
  refine V_aload_n dJ4_grow_2_31 rfl ?_
  refine V_aload_n dJ4_grow_2_32 rfl ?_
  refine V_getf okJ4 1 dJ4_grow_2_33 q263 (by decide) h0 rfl ?_
  refine V_iload_n dJ4_grow_2_36 rfl ?_
  refine V_invS (M' := mJ29_copyOf) (As := [.ref ea, vI (n + iMax (m - n) (zShr n 1))]) (rest := [.ref a]) okJ29_copyOf dJ4_grow_2_37 q1421 rfl rfl rfl (Nat.le_of_ble_eq_true rfl) (d' := 3) (b1 := b) (by first | decide | omega) (by first | decide | omega) (c_J29_copyOf h1 (by omega) (by omega) hc (fun i i0 _ i1 y hy => hel i i0 i1 y hy) (by omega) (fun x hx => ?_))
  refine V_dup_x1 dJ4_grow_2_40 rfl rfl ?_
  refine V_putfE (fs' := [vI mc, .ref x, vI sz]) okJ4 1 dJ4_grow_2_41 q263 (by decide) rfl ((hset_ne (ne_f h0 hx)).trans h0) (by decide) (Nat.le_of_ble_eq_true rfl) rfl rfl rfl rfl ?_
  exact V_aret dJ4_grow_2_44 rfl rfl (Or.inr ⟨_, rfl⟩) (by rw [hmi]; exact K x _ hx (by omega) (by omega))
theorem c_J4_growa {b : Nat} (h0 : h a = some (oO 26 [vI mc, .ref (E.2.2.2 1), vI 0])) (hb : 11 ≤ b) (K : ∀ x, h x = none → Q (.ref x) (hset (hset h x (oR 3 10 (fun _ => none))) a (oO 26 [vI mc, .ref x, vI 0]))) : V E mJ4_grow 5 b 0 [some (.ref a)] [] h Q X := by
  refine V_aload_n dJ4_grow_0 rfl ?_
  refine V_aload_n dJ4_grow_1 rfl ?_
  refine V_getf okJ4 2 dJ4_grow_2 q266 (by decide) h0 rfl ?_
  refine V_iconst dJ4_grow_5 ?_
  refine V_iadd dJ4_grow_6 ?_
  refine V_invVc (M' := mJ4_grow_2) (As := [vI (0 + 1)]) (rest := []) okJ4_grow_2 dJ4_grow_7 q1409 rfl rfl (clsE.o h0) rfl rfl (Nat.le_of_ble_eq_true rfl) (d' := 4) (b1 := b) (by first | decide | omega) (by first | decide | omega) (c_J4_grow_2a h0 (by omega) hb (fun x hx => ?_))
  exact V_aret dJ4_grow_10 rfl rfl (Or.inr ⟨_, rfl⟩) (by exact K x hx)
theorem c_J4_growb {ea n ci b : Nat} {g : Int → Option Nat} (h0 : h a = some (oO 26 [vI mc, .ref ea, vI n])) (h1 : h ea = some (oR 3 n g)) (hn : 0 < n ∧ n ≤ 600) (hc : elC ci) (hel : ∀ i : Int, 0 ≤ i → i < n → ∀ y, g i = some y → clsE E h y ci) (hb : 2 * n + 4 ≤ b) (K : ∀ (x n' : Nat), h x = none → n < n' → n' ≤ 1000 → Q (.ref x) (hset (hset h x (oR 3 n' (oCpy g (fun _ => none) 0 0 n))) a (oO 26 [vI mc, .ref x, vI n]))) : V E mJ4_grow 5 b 0 [some (.ref a)] [] h Q X := by
  refine V_aload_n dJ4_grow_0 rfl ?_
  refine V_aload_n dJ4_grow_1 rfl ?_
  refine V_getf okJ4 2 dJ4_grow_2 q266 (by decide) h0 rfl ?_
  refine V_iconst dJ4_grow_5 ?_
  refine V_iadd dJ4_grow_6 ?_
  refine V_invVc (M' := mJ4_grow_2) (As := [vI (n + 1)]) (rest := []) okJ4_grow_2 dJ4_grow_7 q1409 rfl rfl (clsE.o h0) rfl rfl (Nat.le_of_ble_eq_true rfl) (d' := 4) (b1 := b) (by first | decide | omega) (by first | decide | omega) (c_J4_grow_2b h0 h1 hn (by omega) hc hel (by omega) (fun x n' hx hn1 hn2 => ?_))
  exact V_aret dJ4_grow_10 rfl rfl (Or.inr ⟨_, rfl⟩) (by exact K x n' hx (by omega) hn2)
end AL
