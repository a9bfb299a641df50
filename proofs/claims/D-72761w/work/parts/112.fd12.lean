/-! FOUNDATION 12: rules for the heap walker: the heap behind a write by its own text -/
theorem catN : ([] : List Value).all (fun v => v.category == 1) = true := rfl
theorem catC {v : Value} {As : List Value} (h : v.category = 1) (t : As.all (fun v => v.category == 1) = true) : (v :: As).all (fun v => v.category == 1) = true := by
  rw [List.all_cons, t, h]
  rfl
theorem sumL {vs : List Value} (h : vs.all (fun v => v.category == 1) = true) (hl : Nat.ble vs.length 8 = true) : (vs.map fun v => v.category).sum ≤ 8 := by
  have h1 : (vs.map fun v => v.category).sum = vs.length := by
    clear hl
    induction vs with
    | nil => rfl
    | cons v vs ih =>
      rw [List.all_cons, Bool.and_eq_true] at h
      rw [List.map_cons, List.sum_cons, ih h.2, List.length_cons, show v.category = 1 by simpa using h.1]
      omega
  rw [h1]
  exact Nat.le_of_ble_eq_true hl
theorem isR.or {v : Value} (h : isR v) : v = .null ∨ ∃ a, v = .ref a := by
  obtain ⟨r, rfl⟩ := h
  cases r with
  | none => exact Or.inl rfl
  | some a => exact Or.inr ⟨a, rfl⟩
theorem isR.narO {v : Value} {C : String} (h : isR v) : narrow (.object C) v = v := by
  obtain ⟨r, rfl⟩ := h
  cases r <;> rfl
theorem isR.fitO {v : Value} {C : String} (h : isR v) : fits (.object C) v = true := by
  obtain ⟨r, rfl⟩ := h
  cases r <;> rfl
theorem isR.narA {v : Value} {t : FieldType} (h : isR v) : narrow (.array t) v = v := by
  obtain ⟨r, rfl⟩ := h
  cases r <;> rfl
theorem isR.fitA {v : Value} {t : FieldType} (h : isR v) : fits (.array t) v = true := by
  obtain ⟨r, rfl⟩ := h
  cases r <;> rfl
section Rules12
variable {E : Ev} {M : Mt} {d b pc ci N idx a : Nat} {C ref host : String} {T : u_T} {ty : Nat → FieldType} {df fs fs' : List Value} {v : Value} {ls : List (Option Value)} {rest st : List Value} {h h' : AH} {Q : Value → AH → Prop} {X : Nat → AH → Prop}
theorem V_putfE (ok : ClsOk ci C T N ty df) (k : Nat) (hdg : decode M.2.1 pc = .ok (.putfield idx, 3)) (q : Cond.fieldLink M.1.cls idx (T k).1 (T k).2.1 (T k).2.2.1 ∈ lw_all) (hk : k < N) (hfin : (T k).2.2.2 = false) (ha : h a = some (oO ci fs)) (hci : ci < 32) (hl : k < fs.length) (hn : narrow (ty k) v = v) (hfit : fits (ty k) v = true) (e1 : fs.set k v = fs') (e2 : hset h a (oO ci fs') = h') (kk : V E M d b (pc + 3) ls rest h' Q X) : V E M d b pc ls (v :: .ref a :: rest) h Q X := by
  subst e2; subst e1
  exact V_putf ok k hdg q hk hfin ha hci hl hn hfit kk
theorem V_putFE (ok : ClsOk ci C T N ty df) (k : Nat) (hdg : decode M.2.1 pc = .ok (.putfield idx, 3)) (q : Cond.fieldLink M.1.cls idx (T k).1 (T k).2.1 (T k).2.2.1 ∈ lw_all) (hk : k < N) (hfin : (T k).2.2.2 = true) (hin2 : M.1.name = "<init>") (hdecl : (T k).1 = M.1.cls) (ha : h a = some (oO ci fs)) (hci : ci < 32) (hl : k < fs.length) (hn : narrow (ty k) v = v) (hfit : fits (ty k) v = true) (e1 : fs.set k v = fs') (e2 : hset h a (oO ci fs') = h') (kk : V E M d b (pc + 3) ls rest h' Q X) : V E M d b pc ls (v :: .ref a :: rest) h Q X := by
  subst e2; subst e1
  exact V_putF ok k hdg q hk hfin hin2 hdecl ha hci hl hn hfit kk
theorem V_putNE (ok : ClsOk ci C T N ty df) (k : Nat) (hdg : decode M.2.1 pc = .ok (.putfield idx, 3)) (q : Cond.fieldLinkNest M.1.cls idx (T k).1 (T k).2.1 (T k).2.2.1 host ∈ lw_nt) (hk : k < N) (hfin : (T k).2.2.2 = false) (ha : h a = some (oO ci fs)) (hci : ci < 32) (hl : k < fs.length) (hn : narrow (ty k) v = v) (hfit : fits (ty k) v = true) (e1 : fs.set k v = fs') (e2 : hset h a (oO ci fs') = h') (kk : V E M d b (pc + 3) ls rest h' Q X) : V E M d b pc ls (v :: .ref a :: rest) h Q X := by
  subst e2; subst e1
  exact V_putN ok k hdg q hk hfin ha hci hl hn hfit kk
/-- by a subclass's name -/
theorem V_putSE (ok : ClsOk ci C T N ty df) (k : Nat) (hdg : decode M.2.1 pc = .ok (.putfield idx, 3)) (q : Cond.fieldLink M.1.cls idx ref (T k).2.1 (T k).2.2.1 ∈ lw_all) (qs : Cond.sameField ref (T k).1 (T k).2.1 (T k).2.2.1 ∈ lw_all) (hk : k < N) (hfin : (T k).2.2.2 = false) (ha : h a = some (oO ci fs)) (hci : ci < 32) (hl : k < fs.length) (hn : narrow (ty k) v = v) (hfit : fits (ty k) v = true) (e1 : fs.set k v = fs') (e2 : hset h a (oO ci fs') = h') (kk : V E M d b (pc + 3) ls rest h' Q X) : V E M d b pc ls (v :: .ref a :: rest) h Q X := by
  subst e2; subst e1
  intro p l e R s m args below meth c H locs cells slots mc ms arr C hS hR hL h1 h2 h3 h4 h5 h6
  obtain ⟨ws, k0, e0, hP, hD, hb⟩ := hR.put (c' := .inr (ci, fs.set k v)) ha hci hci
  exact va_put C.1 C.2.1 C.2.2.2.2.1 ok.2.1 ty ok.2.2.1 ok.2.2.2.1 C.2.2.2.1 C.2.2.2.2.2.2.2.2.2.1.1 hP hD hS k0 (fs := fs) e0 ok.1 k hk (C.2.2.2.2.1 _ q) (sameF (C.2.2.2.2.1 _ qs)) hfin (ok.2.2.1 k hk) hn hfit hl hdg (fun H1 locs1 hP1 _ hS1 => kk p l e R s m args below meth c H1 locs1 cells slots mc ms arr C hS1 (hb H1 locs1 hP1 hS1) hL h1 h2 h3 h4 h5 h6)
theorem V_iastE {kk n : Nat} {f f' : Int → Int} {i x : Int} (hdg : decode M.2.1 pc = .ok (.iastore, 1)) (ha : h a = some (oA kk n f)) (hk : kA[kk]? = some .int) (hw : kk < 10) (h0 : 0 ≤ i) (h1 : i < n) (hn : (n : Int) ≤ 2147483647) (e1 : aup f i x = f') (e2 : hset h a (oA kk n f') = h') (k : V E M d b (pc + 1) ls rest h' Q X) : V E M d b pc ls (vI x :: vI i :: .ref a :: rest) h Q X := by
  subst e2; subst e1
  exact V_iast hdg ha hk hw h0 h1 hn k
theorem V_bastE {kk n : Nat} {f f' : Int → Int} {i x : Int} (hdg : decode M.2.1 pc = .ok (.bastore, 1)) (ha : h a = some (oA kk n f)) (hk : kA[kk]? = some .byte) (hw : kk < 10) (hx : -128 ≤ x ∧ x ≤ 127) (h0 : 0 ≤ i) (h1 : i < n) (hn : (n : Int) ≤ 2147483647) (e1 : aup f i x = f') (e2 : hset h a (oA kk n f') = h') (k : V E M d b (pc + 1) ls rest h' Q X) : V E M d b pc ls (vI x :: vI i :: .ref a :: rest) h Q X := by
  subst e2; subst e1
  exact V_bast hdg ha hk hw hx h0 h1 hn k
theorem V_aastNE {T : String} {kk n : Nat} {g : Int → Option Nat} {i : Int} (hdg : decode M.2.1 pc = .ok (.aastore, 1)) (ha : h a = some (oR kk n g)) (hk : kA[kk]? = some (.object T)) (hw : kk < 10) (h0 : 0 ≤ i) (h1 : i < n) (hn : (n : Int) ≤ 2147483647) (e2 : hset h a (oR kk n (aup g i none)) = h') (k : V E M d b (pc + 1) ls rest h' Q X) : V E M d b pc ls (.null :: vI i :: .ref a :: rest) h Q X := by
  subst e2
  exact V_aastN hdg ha hk hw h0 h1 hn k
/-- a reference to a thing of whatever sort -/
theorem V_aastE {T CV : String} {TV : u_T} {NV v kk n ci : Nat} {g : Int → Option Nat} {i : Int} (hdg : decode M.2.1 pc = .ok (.aastore, 1)) (ha : h a = some (oR kk n g)) (hk : kA[kk]? = some (.object T)) (hw : kk < 10) (hv : clsE E h v ci) (hc : clA[ci]? = some (CV, TV, NV)) (hca : CV = T ∨ Cond.castable CV T ∈ lw_nt) (h0 : 0 ≤ i) (h1 : i < n) (hn : (n : Int) ≤ 2147483647) (e2 : hset h a (oR kk n (aup g i (some v))) = h') (k : V E M d b (pc + 1) ls rest h' Q X) : V E M d b pc ls (.ref v :: vI i :: .ref a :: rest) h Q X := by
  subst e2
  have h0' := h0
  have h1' := h1
  intro p l e R s m args below meth c H locs cells slots mc ms arr C hS hR hL h1 h2 h3 h4 h5 h6
  obtain ⟨vs, hPv⟩ := clsE.P C.2.2.2.2.2.2.2.2.2.1 hR hv
  obtain ⟨ws, k0, e0, hP, hD, hb⟩ := hR.put (c' := .inl (kk, n, .inr (aup g i (some v)))) ha hw hw
  have hin := vI_in h0' h1' hn
  have hlt : (Int32.ofInt i).toNatClampNeg < n := Nat.not_le.mp fun q => hin (Or.inr q)
  have h00 : ¬ (Int32.ofInt i) < 0 := fun q => hin (Or.inl q)
  obtain ⟨r', hr', cellV, g1, g2, g3, -⟩ := hPv 0 _ rfl
  have hcls := (C.2.2.2.2.2.2.2.2.2.1.1.1 ci _ hc).2
  obtain ⟨kA', comp, k1, k2, k3, -⟩ := (C.2.2.2.2.2.2.2.2.2.1.1.2 kk _ (tysA_at hk)).2
  obtain ⟨kE, hkE, -⟩ := Vm.findClass_spec k3
  have f3 : s.vm.assignable (E.1.1 ci) comp = true := by
    rcases hca with rfl | hca
    · have hcomp : comp = E.1.1 ci := Option.some.inj (k3.symm.trans hcls.1)
      rw [hcomp]
      exact va_assign hcls
    · obtain ⟨c0, t1, f1, f2, f3⟩ := Cond.castable_spec (va_Nw.use (A := args) rfl (C.2.2.2.2.2.2.2.2.2.1.2.1 _ hca rfl))
      cases hcls.1.symm.trans f1
      cases k3.symm.trans f2
      exact f3
  obtain ⟨kC, hkC, -⟩ := hcls.2
  refine W.aast C.1 C.2.1 (hP k0 _ e0) (fun q h => by cases h) (fun h => by cases h) k1 k2 rfl hkE ⟨h00, by show _ < (arrV _ _ _).slots.size; rw [arrV_size]; exact hlt⟩ g1 (fun q h => by rw [g3] at h; cases h) (by rw [g2]; exact hkC) (by rw [g2]; exact f3) rfl rfl hdg fun H1 e7 z oq => ?_
  have hP1 := hP.set hD e0 (e := cvP E (.inl (kk, n, .inr (aup g i (some v))))) (by
    show H1[a]? = some (vp_cell _ _)
    rw [e7]
    rw [vp_cell_q, vp_cell_q, arrV_store]
    congr 2
    funext q
    have e9 := congrFun (aup_up (g := g) (x := some v) h0' (by omega)) q
    rw [← e9]
    by_cases hq : q = (Int32.ofInt i).toNatClampNeg
    · subst hq
      simp [updV, va_up, va_rf]
    · simp [updV, va_up, hq]) oq
  have hS1 := hS.put z oq (hD.2 k0 _ e0) (k := (Int32.ofInt i).toNatClampNeg)
  exact k p l e R s m args below meth c H1 (locs ++ [⟨a, (Int32.ofInt i).toNatClampNeg⟩]) cells slots mc ms arr C hS1 (hb H1 _ hP1 hS1) hL h1 h2 h3 h4 h5 h6
theorem V_aastGE {T CV : String} {TV : u_T} {NV kk n ci : Nat} {r : Option Nat} {g : Int → Option Nat} {i : Int} (hdg : decode M.2.1 pc = .ok (.aastore, 1)) (ha : h a = some (oR kk n g)) (hk : kA[kk]? = some (.object T)) (hw : kk < 10) (hv : ∀ v, r = some v → clsE E h v ci) (hc : clA[ci]? = some (CV, TV, NV)) (hca : CV = T ∨ Cond.castable CV T ∈ lw_nt) (h0 : 0 ≤ i) (h1 : i < n) (hn : (n : Int) ≤ 2147483647) (e2 : hset h a (oR kk n (aup g i r)) = h') (k : V E M d b (pc + 1) ls rest h' Q X) : V E M d b pc ls (va_rf r :: vI i :: .ref a :: rest) h Q X := by
  cases r with
  | none => exact V_aastNE hdg ha hk hw h0 h1 hn e2 k
  | some v => exact V_aastE hdg ha hk hw (hv v rfl) hc hca h0 h1 hn e2 k
theorem V_castG {nm : String} {r : Option Nat} {C0 : String} (hdg : decode M.2.1 pc = .ok (.checkcast idx, 3)) (q : Cond.classLink M.1.cls idx nm ∈ lw_all) (hci : clA[ci]? = some (C0, T, N)) (hca : C0 = nm ∨ Cond.castable C0 nm ∈ lw_nt) (ha : ∀ a, r = some a → clsE E h a ci) (k : V E M d b (pc + 3) ls (va_rf r :: rest) h Q X) : V E M d b pc ls (va_rf r :: rest) h Q X := by
  cases r with
  | none => exact V_castN hdg k
  | some a =>
    rcases hca with rfl | hca
    · exact V_castE hdg q hci (ha a rfl) k
    · exact V_castY hdg q hci hca (ha a rfl) k
/-- the value on top by another text -/
theorem V_top9 {v : Value} (v' : Value) (e : v = v') (k : V E M d b pc ls (v' :: rest) h Q X) : V E M d b pc ls (v :: rest) h Q X := by rw [e]; exact k
theorem V_topE {x : Int} (x' : Int) (e : x = x') (k : V E M d b pc ls (vI x' :: rest) h Q X) : V E M d b pc ls (vI x :: rest) h Q X := by rw [e]; exact k
/-- the locals by another text -/
theorem V_ls {ls' : List (Option Value)} (e : ls = ls') (k : V E M d b pc ls' st h Q X) : V E M d b pc ls st h Q X := by rw [e]; exact k
end Rules12
