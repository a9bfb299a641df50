/-! CALLS by their number of arguments (by program) -/
/-- all numbers are ints -/
def Rng (g : MG) : Prop := ∀ (k : Nat) (i : Int), inr (g k i)
theorem Rng.up {g : MG} (h : Rng g) {k : Nat} {i v : Int} (hv : inr v) : Rng (gup g k i v) := by
  intro k' i'
  unfold gup aup
  by_cases hk : k' = k
  · subst hk
    by_cases hi : i' = i
    · simp only [hi, if_true]; exact hv
    · simp only [if_true, if_neg hi]; exact h _ _
  · simp only [if_neg hk]; exact h _ _
section VMc
variable {E : Ev} {M M' : Mt} {d d' b b1 pc idx am ci N a : Nat} {C : String} {T : u_T} {B : Nat → Nat} {h0 h : AH} {g : MG} {i v : Int} {ls : List (Option Value)} {fs rest : List Value} {x1 x2 x3 x4 x5 x6 : Value} {Q : Value → AH → Prop} {X : Nat → AH → Prop}
theorem V_top {x : Int} (y : Int) (h9 : x = y) (k : V E M d b pc ls (vI y :: rest) h Q X) : V E M d b pc ls (vI x :: rest) h Q X := h9 ▸ k
theorem VM_getiE (k : Nat) (x : Int) (hdg : decode M.2.1 pc = .ok (.getfield idx, 3)) (q : Cond.fieldLink M.1.cls idx (TX7 k).1 (TX7 k).2.1 (TX7 k).2.2.1 ∈ lw_all) (hk : k < 50) (hv : (mFs B g)[k]? = some (vI (g k 0))) (hx : g k 0 = x) (kk : V E M d b (pc + 3) ls (vI x :: rest) (mkM am B h0 g) Q X) : V E M d b pc ls (.ref am :: rest) (mkM am B h0 g) Q X :=
  VM_geti k hdg q hk hv (hx ▸ kk)
theorem VM_ialdE (k : Nat) (x : Int) (hB : MB am B) (hdg : decode M.2.1 pc = .ok (.iaload, 1)) (hk : k ∈ mAr) (hd : mKd k = 0) (h0' : 0 ≤ i) (h1 : i < mLn k) (hn : (mLn k : Int) ≤ 2147483647) (hx : g k i = x) (kk : V E M d b (pc + 1) ls (vI x :: rest) (mkM am B h0 g) Q X) : V E M d b pc ls (vI i :: .ref (B k) :: rest) (mkM am B h0 g) Q X :=
  VM_iald k hB hdg hk hd h0' h1 hn (hx ▸ kk)
theorem VM_zaldE (k : Nat) (x : Int) (hB : MB am B) (hdg : decode M.2.1 pc = .ok (.baload, 1)) (hk : k ∈ mAr) (hd : mKd k = 2) (h0' : 0 ≤ i) (h1 : i < mLn k) (hn : (mLn k : Int) ≤ 2147483647) (hx : g k i = x) (kk : V E M d b (pc + 1) ls (vI x :: rest) (mkM am B h0 g) Q X) : V E M d b pc ls (vI i :: .ref (B k) :: rest) (mkM am B h0 g) Q X :=
  VM_zald k hB hdg hk hd h0' h1 hn (hx ▸ kk)
theorem rv_some {M : Mt} {v : Value} (h : M.2.2.2.1.isSome = true) (rest : List Value) : rv M v ++ rest = v :: rest := by
  unfold rv
  cases hr : M.2.2.2.1 with
  | none => rw [hr] at h; cases h
  | some t => rfl
theorem rv_none {M : Mt} {v : Value} (h : M.2.2.2.1 = none) (rest : List Value) : rv M v ++ rest = rest := by
  unfold rv
  rw [h]
  rfl
theorem VO_c0 (ok : OkV M' 0) (hdg : decode M.2.1 pc = .ok (.invokevirtual idx, 3)) (q1 : Cond.methodLink M.1.cls idx M'.1 ∈ lw_all) (hh : nocov M pc = true) (ha : h a = some (oO ci fs)) (hci : clA[ci]? = some (M'.1.cls, T, N)) (hcat : ([] : List Value).all (fun v => v.category == 1) = true) (hr : M'.2.2.2.1.isSome = true) (hW : (rest.map fun v => v.category).sum ≤ 8) (hdd : d' + 1 ≤ d) (hbb : b1 ≤ b)
    (k : V E M' d' b1 0 (entL M'.2.2.1 (.ref a :: [])) [] h (fun v h9 => V E M d (b - b1) (pc + 3) ls (v :: rest) h9 Q X) X) : V E M d b pc ls (.ref a :: rest) h Q X :=
  V_invV (As := []) ok hdg q1 hh rfl ha hci hcat hW hdd hbb (by
    have e : (fun v h9 => V E M d (b - b1) (pc + 3) ls (rv M' v ++ rest) h9 Q X) = (fun v h9 => V E M d (b - b1) (pc + 3) ls (v :: rest) h9 Q X) := by funext v h9; rw [rv_some hr]
    rw [e]; exact k)
theorem VM_c0 (ok : OkV M' 0) (hcl : M'.1.cls = RX7) (hdg : decode M.2.1 pc = .ok (.invokevirtual idx, 3)) (q1 : Cond.methodLink M.1.cls idx M'.1 ∈ lw_all) (hcat : ([] : List Value).all (fun v => v.category == 1) = true) (hr : M'.2.2.2.1.isSome = true) (hW : (rest.map fun v => v.category).sum ≤ 8) (hdd : d' + 1 ≤ d) (hbb : b1 ≤ b)
    (k : V E M' d' b1 0 (entL M'.2.2.1 (.ref am :: [])) [] (mkM am B h0 g) (fun v h9 => V E M d (b - b1) (pc + 3) ls (v :: rest) h9 Q X) X) (hh : nocov M pc = true := by rfl) : V E M d b pc ls (.ref am :: rest) (mkM am B h0 g) Q X :=
  VO_c0 ok hdg q1 hh mkM_obj (by rw [hcl]; rfl) hcat hr hW hdd hbb k
theorem VS_c0 (ok : OkS M' 0) (hdg : decode M.2.1 pc = .ok (.invokestatic idx, 3)) (q1 : Cond.methodLink M.1.cls idx M'.1 ∈ lw_all) (hcat : ([] : List Value).all (fun v => v.category == 1) = true) (hr : M'.2.2.2.1.isSome = true) (hW : (rest.map fun v => v.category).sum ≤ 8) (hdd : d' + 1 ≤ d) (hbb : b1 ≤ b)
    (k : V E M' d' b1 0 (entL M'.2.2.1 []) [] h (fun v h9 => V E M d (b - b1) (pc + 3) ls (v :: rest) h9 Q X) X) (hh : nocov M pc = true := by rfl) : V E M d b pc ls (rest) h Q X :=
  V_invS (As := []) ok hdg q1 hh rfl hcat hW hdd hbb (by
    have e : (fun v h9 => V E M d (b - b1) (pc + 3) ls (rv M' v ++ rest) h9 Q X) = (fun v h9 => V E M d (b - b1) (pc + 3) ls (v :: rest) h9 Q X) := by funext v h9; rw [rv_some hr]
    rw [e]; exact k)
theorem VO_v0 (ok : OkV M' 0) (hdg : decode M.2.1 pc = .ok (.invokevirtual idx, 3)) (q1 : Cond.methodLink M.1.cls idx M'.1 ∈ lw_all) (hh : nocov M pc = true) (ha : h a = some (oO ci fs)) (hci : clA[ci]? = some (M'.1.cls, T, N)) (hcat : ([] : List Value).all (fun v => v.category == 1) = true) (hr : M'.2.2.2.1 = none) (hW : (rest.map fun v => v.category).sum ≤ 8) (hdd : d' + 1 ≤ d) (hbb : b1 ≤ b)
    (k : V E M' d' b1 0 (entL M'.2.2.1 (.ref a :: [])) [] h (fun v h9 => V E M d (b - b1) (pc + 3) ls rest h9 Q X) X) : V E M d b pc ls (.ref a :: rest) h Q X :=
  V_invV (As := []) ok hdg q1 hh rfl ha hci hcat hW hdd hbb (by
    have e : (fun v h9 => V E M d (b - b1) (pc + 3) ls (rv M' v ++ rest) h9 Q X) = (fun v h9 => V E M d (b - b1) (pc + 3) ls rest h9 Q X) := by funext v h9; rw [rv_none hr]
    rw [e]; exact k)
theorem VM_v0 (ok : OkV M' 0) (hcl : M'.1.cls = RX7) (hdg : decode M.2.1 pc = .ok (.invokevirtual idx, 3)) (q1 : Cond.methodLink M.1.cls idx M'.1 ∈ lw_all) (hcat : ([] : List Value).all (fun v => v.category == 1) = true) (hr : M'.2.2.2.1 = none) (hW : (rest.map fun v => v.category).sum ≤ 8) (hdd : d' + 1 ≤ d) (hbb : b1 ≤ b)
    (k : V E M' d' b1 0 (entL M'.2.2.1 (.ref am :: [])) [] (mkM am B h0 g) (fun v h9 => V E M d (b - b1) (pc + 3) ls rest h9 Q X) X) (hh : nocov M pc = true := by rfl) : V E M d b pc ls (.ref am :: rest) (mkM am B h0 g) Q X :=
  VO_v0 ok hdg q1 hh mkM_obj (by rw [hcl]; rfl) hcat hr hW hdd hbb k
theorem VS_v0 (ok : OkS M' 0) (hdg : decode M.2.1 pc = .ok (.invokestatic idx, 3)) (q1 : Cond.methodLink M.1.cls idx M'.1 ∈ lw_all) (hcat : ([] : List Value).all (fun v => v.category == 1) = true) (hr : M'.2.2.2.1 = none) (hW : (rest.map fun v => v.category).sum ≤ 8) (hdd : d' + 1 ≤ d) (hbb : b1 ≤ b)
    (k : V E M' d' b1 0 (entL M'.2.2.1 []) [] h (fun v h9 => V E M d (b - b1) (pc + 3) ls rest h9 Q X) X) (hh : nocov M pc = true := by rfl) : V E M d b pc ls (rest) h Q X :=
  V_invS (As := []) ok hdg q1 hh rfl hcat hW hdd hbb (by
    have e : (fun v h9 => V E M d (b - b1) (pc + 3) ls (rv M' v ++ rest) h9 Q X) = (fun v h9 => V E M d (b - b1) (pc + 3) ls rest h9 Q X) := by funext v h9; rw [rv_none hr]
    rw [e]; exact k)
theorem VO_c1 (ok : OkV M' 1) (hdg : decode M.2.1 pc = .ok (.invokevirtual idx, 3)) (q1 : Cond.methodLink M.1.cls idx M'.1 ∈ lw_all) (hh : nocov M pc = true) (ha : h a = some (oO ci fs)) (hci : clA[ci]? = some (M'.1.cls, T, N)) (hcat : ([x1] : List Value).all (fun v => v.category == 1) = true) (hr : M'.2.2.2.1.isSome = true) (hW : (rest.map fun v => v.category).sum ≤ 8) (hdd : d' + 1 ≤ d) (hbb : b1 ≤ b)
    (k : V E M' d' b1 0 (entL M'.2.2.1 (.ref a :: [x1])) [] h (fun v h9 => V E M d (b - b1) (pc + 3) ls (v :: rest) h9 Q X) X) : V E M d b pc ls (x1 :: .ref a :: rest) h Q X :=
  V_invV (As := [x1]) ok hdg q1 hh rfl ha hci hcat hW hdd hbb (by
    have e : (fun v h9 => V E M d (b - b1) (pc + 3) ls (rv M' v ++ rest) h9 Q X) = (fun v h9 => V E M d (b - b1) (pc + 3) ls (v :: rest) h9 Q X) := by funext v h9; rw [rv_some hr]
    rw [e]; exact k)
theorem VM_c1 (ok : OkV M' 1) (hcl : M'.1.cls = RX7) (hdg : decode M.2.1 pc = .ok (.invokevirtual idx, 3)) (q1 : Cond.methodLink M.1.cls idx M'.1 ∈ lw_all) (hcat : ([x1] : List Value).all (fun v => v.category == 1) = true) (hr : M'.2.2.2.1.isSome = true) (hW : (rest.map fun v => v.category).sum ≤ 8) (hdd : d' + 1 ≤ d) (hbb : b1 ≤ b)
    (k : V E M' d' b1 0 (entL M'.2.2.1 (.ref am :: [x1])) [] (mkM am B h0 g) (fun v h9 => V E M d (b - b1) (pc + 3) ls (v :: rest) h9 Q X) X) (hh : nocov M pc = true := by rfl) : V E M d b pc ls (x1 :: .ref am :: rest) (mkM am B h0 g) Q X :=
  VO_c1 ok hdg q1 hh mkM_obj (by rw [hcl]; rfl) hcat hr hW hdd hbb k
theorem VS_c1 (ok : OkS M' 1) (hdg : decode M.2.1 pc = .ok (.invokestatic idx, 3)) (q1 : Cond.methodLink M.1.cls idx M'.1 ∈ lw_all) (hcat : ([x1] : List Value).all (fun v => v.category == 1) = true) (hr : M'.2.2.2.1.isSome = true) (hW : (rest.map fun v => v.category).sum ≤ 8) (hdd : d' + 1 ≤ d) (hbb : b1 ≤ b)
    (k : V E M' d' b1 0 (entL M'.2.2.1 [x1]) [] h (fun v h9 => V E M d (b - b1) (pc + 3) ls (v :: rest) h9 Q X) X) (hh : nocov M pc = true := by rfl) : V E M d b pc ls (x1 :: rest) h Q X :=
  V_invS (As := [x1]) ok hdg q1 hh rfl hcat hW hdd hbb (by
    have e : (fun v h9 => V E M d (b - b1) (pc + 3) ls (rv M' v ++ rest) h9 Q X) = (fun v h9 => V E M d (b - b1) (pc + 3) ls (v :: rest) h9 Q X) := by funext v h9; rw [rv_some hr]
    rw [e]; exact k)
theorem VO_v1 (ok : OkV M' 1) (hdg : decode M.2.1 pc = .ok (.invokevirtual idx, 3)) (q1 : Cond.methodLink M.1.cls idx M'.1 ∈ lw_all) (hh : nocov M pc = true) (ha : h a = some (oO ci fs)) (hci : clA[ci]? = some (M'.1.cls, T, N)) (hcat : ([x1] : List Value).all (fun v => v.category == 1) = true) (hr : M'.2.2.2.1 = none) (hW : (rest.map fun v => v.category).sum ≤ 8) (hdd : d' + 1 ≤ d) (hbb : b1 ≤ b)
    (k : V E M' d' b1 0 (entL M'.2.2.1 (.ref a :: [x1])) [] h (fun v h9 => V E M d (b - b1) (pc + 3) ls rest h9 Q X) X) : V E M d b pc ls (x1 :: .ref a :: rest) h Q X :=
  V_invV (As := [x1]) ok hdg q1 hh rfl ha hci hcat hW hdd hbb (by
    have e : (fun v h9 => V E M d (b - b1) (pc + 3) ls (rv M' v ++ rest) h9 Q X) = (fun v h9 => V E M d (b - b1) (pc + 3) ls rest h9 Q X) := by funext v h9; rw [rv_none hr]
    rw [e]; exact k)
theorem VM_v1 (ok : OkV M' 1) (hcl : M'.1.cls = RX7) (hdg : decode M.2.1 pc = .ok (.invokevirtual idx, 3)) (q1 : Cond.methodLink M.1.cls idx M'.1 ∈ lw_all) (hcat : ([x1] : List Value).all (fun v => v.category == 1) = true) (hr : M'.2.2.2.1 = none) (hW : (rest.map fun v => v.category).sum ≤ 8) (hdd : d' + 1 ≤ d) (hbb : b1 ≤ b)
    (k : V E M' d' b1 0 (entL M'.2.2.1 (.ref am :: [x1])) [] (mkM am B h0 g) (fun v h9 => V E M d (b - b1) (pc + 3) ls rest h9 Q X) X) (hh : nocov M pc = true := by rfl) : V E M d b pc ls (x1 :: .ref am :: rest) (mkM am B h0 g) Q X :=
  VO_v1 ok hdg q1 hh mkM_obj (by rw [hcl]; rfl) hcat hr hW hdd hbb k
theorem VS_v1 (ok : OkS M' 1) (hdg : decode M.2.1 pc = .ok (.invokestatic idx, 3)) (q1 : Cond.methodLink M.1.cls idx M'.1 ∈ lw_all) (hcat : ([x1] : List Value).all (fun v => v.category == 1) = true) (hr : M'.2.2.2.1 = none) (hW : (rest.map fun v => v.category).sum ≤ 8) (hdd : d' + 1 ≤ d) (hbb : b1 ≤ b)
    (k : V E M' d' b1 0 (entL M'.2.2.1 [x1]) [] h (fun v h9 => V E M d (b - b1) (pc + 3) ls rest h9 Q X) X) (hh : nocov M pc = true := by rfl) : V E M d b pc ls (x1 :: rest) h Q X :=
  V_invS (As := [x1]) ok hdg q1 hh rfl hcat hW hdd hbb (by
    have e : (fun v h9 => V E M d (b - b1) (pc + 3) ls (rv M' v ++ rest) h9 Q X) = (fun v h9 => V E M d (b - b1) (pc + 3) ls rest h9 Q X) := by funext v h9; rw [rv_none hr]
    rw [e]; exact k)
theorem VO_c2 (ok : OkV M' 2) (hdg : decode M.2.1 pc = .ok (.invokevirtual idx, 3)) (q1 : Cond.methodLink M.1.cls idx M'.1 ∈ lw_all) (hh : nocov M pc = true) (ha : h a = some (oO ci fs)) (hci : clA[ci]? = some (M'.1.cls, T, N)) (hcat : ([x1, x2] : List Value).all (fun v => v.category == 1) = true) (hr : M'.2.2.2.1.isSome = true) (hW : (rest.map fun v => v.category).sum ≤ 8) (hdd : d' + 1 ≤ d) (hbb : b1 ≤ b)
    (k : V E M' d' b1 0 (entL M'.2.2.1 (.ref a :: [x1, x2])) [] h (fun v h9 => V E M d (b - b1) (pc + 3) ls (v :: rest) h9 Q X) X) : V E M d b pc ls (x2 :: x1 :: .ref a :: rest) h Q X :=
  V_invV (As := [x1, x2]) ok hdg q1 hh rfl ha hci hcat hW hdd hbb (by
    have e : (fun v h9 => V E M d (b - b1) (pc + 3) ls (rv M' v ++ rest) h9 Q X) = (fun v h9 => V E M d (b - b1) (pc + 3) ls (v :: rest) h9 Q X) := by funext v h9; rw [rv_some hr]
    rw [e]; exact k)
theorem VM_c2 (ok : OkV M' 2) (hcl : M'.1.cls = RX7) (hdg : decode M.2.1 pc = .ok (.invokevirtual idx, 3)) (q1 : Cond.methodLink M.1.cls idx M'.1 ∈ lw_all) (hcat : ([x1, x2] : List Value).all (fun v => v.category == 1) = true) (hr : M'.2.2.2.1.isSome = true) (hW : (rest.map fun v => v.category).sum ≤ 8) (hdd : d' + 1 ≤ d) (hbb : b1 ≤ b)
    (k : V E M' d' b1 0 (entL M'.2.2.1 (.ref am :: [x1, x2])) [] (mkM am B h0 g) (fun v h9 => V E M d (b - b1) (pc + 3) ls (v :: rest) h9 Q X) X) (hh : nocov M pc = true := by rfl) : V E M d b pc ls (x2 :: x1 :: .ref am :: rest) (mkM am B h0 g) Q X :=
  VO_c2 ok hdg q1 hh mkM_obj (by rw [hcl]; rfl) hcat hr hW hdd hbb k
theorem VS_c2 (ok : OkS M' 2) (hdg : decode M.2.1 pc = .ok (.invokestatic idx, 3)) (q1 : Cond.methodLink M.1.cls idx M'.1 ∈ lw_all) (hcat : ([x1, x2] : List Value).all (fun v => v.category == 1) = true) (hr : M'.2.2.2.1.isSome = true) (hW : (rest.map fun v => v.category).sum ≤ 8) (hdd : d' + 1 ≤ d) (hbb : b1 ≤ b)
    (k : V E M' d' b1 0 (entL M'.2.2.1 [x1, x2]) [] h (fun v h9 => V E M d (b - b1) (pc + 3) ls (v :: rest) h9 Q X) X) (hh : nocov M pc = true := by rfl) : V E M d b pc ls (x2 :: x1 :: rest) h Q X :=
  V_invS (As := [x1, x2]) ok hdg q1 hh rfl hcat hW hdd hbb (by
    have e : (fun v h9 => V E M d (b - b1) (pc + 3) ls (rv M' v ++ rest) h9 Q X) = (fun v h9 => V E M d (b - b1) (pc + 3) ls (v :: rest) h9 Q X) := by funext v h9; rw [rv_some hr]
    rw [e]; exact k)
theorem VO_v2 (ok : OkV M' 2) (hdg : decode M.2.1 pc = .ok (.invokevirtual idx, 3)) (q1 : Cond.methodLink M.1.cls idx M'.1 ∈ lw_all) (hh : nocov M pc = true) (ha : h a = some (oO ci fs)) (hci : clA[ci]? = some (M'.1.cls, T, N)) (hcat : ([x1, x2] : List Value).all (fun v => v.category == 1) = true) (hr : M'.2.2.2.1 = none) (hW : (rest.map fun v => v.category).sum ≤ 8) (hdd : d' + 1 ≤ d) (hbb : b1 ≤ b)
    (k : V E M' d' b1 0 (entL M'.2.2.1 (.ref a :: [x1, x2])) [] h (fun v h9 => V E M d (b - b1) (pc + 3) ls rest h9 Q X) X) : V E M d b pc ls (x2 :: x1 :: .ref a :: rest) h Q X :=
  V_invV (As := [x1, x2]) ok hdg q1 hh rfl ha hci hcat hW hdd hbb (by
    have e : (fun v h9 => V E M d (b - b1) (pc + 3) ls (rv M' v ++ rest) h9 Q X) = (fun v h9 => V E M d (b - b1) (pc + 3) ls rest h9 Q X) := by funext v h9; rw [rv_none hr]
    rw [e]; exact k)
theorem VM_v2 (ok : OkV M' 2) (hcl : M'.1.cls = RX7) (hdg : decode M.2.1 pc = .ok (.invokevirtual idx, 3)) (q1 : Cond.methodLink M.1.cls idx M'.1 ∈ lw_all) (hcat : ([x1, x2] : List Value).all (fun v => v.category == 1) = true) (hr : M'.2.2.2.1 = none) (hW : (rest.map fun v => v.category).sum ≤ 8) (hdd : d' + 1 ≤ d) (hbb : b1 ≤ b)
    (k : V E M' d' b1 0 (entL M'.2.2.1 (.ref am :: [x1, x2])) [] (mkM am B h0 g) (fun v h9 => V E M d (b - b1) (pc + 3) ls rest h9 Q X) X) (hh : nocov M pc = true := by rfl) : V E M d b pc ls (x2 :: x1 :: .ref am :: rest) (mkM am B h0 g) Q X :=
  VO_v2 ok hdg q1 hh mkM_obj (by rw [hcl]; rfl) hcat hr hW hdd hbb k
theorem VS_v2 (ok : OkS M' 2) (hdg : decode M.2.1 pc = .ok (.invokestatic idx, 3)) (q1 : Cond.methodLink M.1.cls idx M'.1 ∈ lw_all) (hcat : ([x1, x2] : List Value).all (fun v => v.category == 1) = true) (hr : M'.2.2.2.1 = none) (hW : (rest.map fun v => v.category).sum ≤ 8) (hdd : d' + 1 ≤ d) (hbb : b1 ≤ b)
    (k : V E M' d' b1 0 (entL M'.2.2.1 [x1, x2]) [] h (fun v h9 => V E M d (b - b1) (pc + 3) ls rest h9 Q X) X) (hh : nocov M pc = true := by rfl) : V E M d b pc ls (x2 :: x1 :: rest) h Q X :=
  V_invS (As := [x1, x2]) ok hdg q1 hh rfl hcat hW hdd hbb (by
    have e : (fun v h9 => V E M d (b - b1) (pc + 3) ls (rv M' v ++ rest) h9 Q X) = (fun v h9 => V E M d (b - b1) (pc + 3) ls rest h9 Q X) := by funext v h9; rw [rv_none hr]
    rw [e]; exact k)
theorem VO_c3 (ok : OkV M' 3) (hdg : decode M.2.1 pc = .ok (.invokevirtual idx, 3)) (q1 : Cond.methodLink M.1.cls idx M'.1 ∈ lw_all) (hh : nocov M pc = true) (ha : h a = some (oO ci fs)) (hci : clA[ci]? = some (M'.1.cls, T, N)) (hcat : ([x1, x2, x3] : List Value).all (fun v => v.category == 1) = true) (hr : M'.2.2.2.1.isSome = true) (hW : (rest.map fun v => v.category).sum ≤ 8) (hdd : d' + 1 ≤ d) (hbb : b1 ≤ b)
    (k : V E M' d' b1 0 (entL M'.2.2.1 (.ref a :: [x1, x2, x3])) [] h (fun v h9 => V E M d (b - b1) (pc + 3) ls (v :: rest) h9 Q X) X) : V E M d b pc ls (x3 :: x2 :: x1 :: .ref a :: rest) h Q X :=
  V_invV (As := [x1, x2, x3]) ok hdg q1 hh rfl ha hci hcat hW hdd hbb (by
    have e : (fun v h9 => V E M d (b - b1) (pc + 3) ls (rv M' v ++ rest) h9 Q X) = (fun v h9 => V E M d (b - b1) (pc + 3) ls (v :: rest) h9 Q X) := by funext v h9; rw [rv_some hr]
    rw [e]; exact k)
theorem VM_c3 (ok : OkV M' 3) (hcl : M'.1.cls = RX7) (hdg : decode M.2.1 pc = .ok (.invokevirtual idx, 3)) (q1 : Cond.methodLink M.1.cls idx M'.1 ∈ lw_all) (hcat : ([x1, x2, x3] : List Value).all (fun v => v.category == 1) = true) (hr : M'.2.2.2.1.isSome = true) (hW : (rest.map fun v => v.category).sum ≤ 8) (hdd : d' + 1 ≤ d) (hbb : b1 ≤ b)
    (k : V E M' d' b1 0 (entL M'.2.2.1 (.ref am :: [x1, x2, x3])) [] (mkM am B h0 g) (fun v h9 => V E M d (b - b1) (pc + 3) ls (v :: rest) h9 Q X) X) (hh : nocov M pc = true := by rfl) : V E M d b pc ls (x3 :: x2 :: x1 :: .ref am :: rest) (mkM am B h0 g) Q X :=
  VO_c3 ok hdg q1 hh mkM_obj (by rw [hcl]; rfl) hcat hr hW hdd hbb k
theorem VS_c3 (ok : OkS M' 3) (hdg : decode M.2.1 pc = .ok (.invokestatic idx, 3)) (q1 : Cond.methodLink M.1.cls idx M'.1 ∈ lw_all) (hcat : ([x1, x2, x3] : List Value).all (fun v => v.category == 1) = true) (hr : M'.2.2.2.1.isSome = true) (hW : (rest.map fun v => v.category).sum ≤ 8) (hdd : d' + 1 ≤ d) (hbb : b1 ≤ b)
    (k : V E M' d' b1 0 (entL M'.2.2.1 [x1, x2, x3]) [] h (fun v h9 => V E M d (b - b1) (pc + 3) ls (v :: rest) h9 Q X) X) (hh : nocov M pc = true := by rfl) : V E M d b pc ls (x3 :: x2 :: x1 :: rest) h Q X :=
  V_invS (As := [x1, x2, x3]) ok hdg q1 hh rfl hcat hW hdd hbb (by
    have e : (fun v h9 => V E M d (b - b1) (pc + 3) ls (rv M' v ++ rest) h9 Q X) = (fun v h9 => V E M d (b - b1) (pc + 3) ls (v :: rest) h9 Q X) := by funext v h9; rw [rv_some hr]
    rw [e]; exact k)
theorem VO_v3 (ok : OkV M' 3) (hdg : decode M.2.1 pc = .ok (.invokevirtual idx, 3)) (q1 : Cond.methodLink M.1.cls idx M'.1 ∈ lw_all) (hh : nocov M pc = true) (ha : h a = some (oO ci fs)) (hci : clA[ci]? = some (M'.1.cls, T, N)) (hcat : ([x1, x2, x3] : List Value).all (fun v => v.category == 1) = true) (hr : M'.2.2.2.1 = none) (hW : (rest.map fun v => v.category).sum ≤ 8) (hdd : d' + 1 ≤ d) (hbb : b1 ≤ b)
    (k : V E M' d' b1 0 (entL M'.2.2.1 (.ref a :: [x1, x2, x3])) [] h (fun v h9 => V E M d (b - b1) (pc + 3) ls rest h9 Q X) X) : V E M d b pc ls (x3 :: x2 :: x1 :: .ref a :: rest) h Q X :=
  V_invV (As := [x1, x2, x3]) ok hdg q1 hh rfl ha hci hcat hW hdd hbb (by
    have e : (fun v h9 => V E M d (b - b1) (pc + 3) ls (rv M' v ++ rest) h9 Q X) = (fun v h9 => V E M d (b - b1) (pc + 3) ls rest h9 Q X) := by funext v h9; rw [rv_none hr]
    rw [e]; exact k)
theorem VM_v3 (ok : OkV M' 3) (hcl : M'.1.cls = RX7) (hdg : decode M.2.1 pc = .ok (.invokevirtual idx, 3)) (q1 : Cond.methodLink M.1.cls idx M'.1 ∈ lw_all) (hcat : ([x1, x2, x3] : List Value).all (fun v => v.category == 1) = true) (hr : M'.2.2.2.1 = none) (hW : (rest.map fun v => v.category).sum ≤ 8) (hdd : d' + 1 ≤ d) (hbb : b1 ≤ b)
    (k : V E M' d' b1 0 (entL M'.2.2.1 (.ref am :: [x1, x2, x3])) [] (mkM am B h0 g) (fun v h9 => V E M d (b - b1) (pc + 3) ls rest h9 Q X) X) (hh : nocov M pc = true := by rfl) : V E M d b pc ls (x3 :: x2 :: x1 :: .ref am :: rest) (mkM am B h0 g) Q X :=
  VO_v3 ok hdg q1 hh mkM_obj (by rw [hcl]; rfl) hcat hr hW hdd hbb k
theorem VS_v3 (ok : OkS M' 3) (hdg : decode M.2.1 pc = .ok (.invokestatic idx, 3)) (q1 : Cond.methodLink M.1.cls idx M'.1 ∈ lw_all) (hcat : ([x1, x2, x3] : List Value).all (fun v => v.category == 1) = true) (hr : M'.2.2.2.1 = none) (hW : (rest.map fun v => v.category).sum ≤ 8) (hdd : d' + 1 ≤ d) (hbb : b1 ≤ b)
    (k : V E M' d' b1 0 (entL M'.2.2.1 [x1, x2, x3]) [] h (fun v h9 => V E M d (b - b1) (pc + 3) ls rest h9 Q X) X) (hh : nocov M pc = true := by rfl) : V E M d b pc ls (x3 :: x2 :: x1 :: rest) h Q X :=
  V_invS (As := [x1, x2, x3]) ok hdg q1 hh rfl hcat hW hdd hbb (by
    have e : (fun v h9 => V E M d (b - b1) (pc + 3) ls (rv M' v ++ rest) h9 Q X) = (fun v h9 => V E M d (b - b1) (pc + 3) ls rest h9 Q X) := by funext v h9; rw [rv_none hr]
    rw [e]; exact k)
theorem VO_c4 (ok : OkV M' 4) (hdg : decode M.2.1 pc = .ok (.invokevirtual idx, 3)) (q1 : Cond.methodLink M.1.cls idx M'.1 ∈ lw_all) (hh : nocov M pc = true) (ha : h a = some (oO ci fs)) (hci : clA[ci]? = some (M'.1.cls, T, N)) (hcat : ([x1, x2, x3, x4] : List Value).all (fun v => v.category == 1) = true) (hr : M'.2.2.2.1.isSome = true) (hW : (rest.map fun v => v.category).sum ≤ 8) (hdd : d' + 1 ≤ d) (hbb : b1 ≤ b)
    (k : V E M' d' b1 0 (entL M'.2.2.1 (.ref a :: [x1, x2, x3, x4])) [] h (fun v h9 => V E M d (b - b1) (pc + 3) ls (v :: rest) h9 Q X) X) : V E M d b pc ls (x4 :: x3 :: x2 :: x1 :: .ref a :: rest) h Q X :=
  V_invV (As := [x1, x2, x3, x4]) ok hdg q1 hh rfl ha hci hcat hW hdd hbb (by
    have e : (fun v h9 => V E M d (b - b1) (pc + 3) ls (rv M' v ++ rest) h9 Q X) = (fun v h9 => V E M d (b - b1) (pc + 3) ls (v :: rest) h9 Q X) := by funext v h9; rw [rv_some hr]
    rw [e]; exact k)
theorem VM_c4 (ok : OkV M' 4) (hcl : M'.1.cls = RX7) (hdg : decode M.2.1 pc = .ok (.invokevirtual idx, 3)) (q1 : Cond.methodLink M.1.cls idx M'.1 ∈ lw_all) (hcat : ([x1, x2, x3, x4] : List Value).all (fun v => v.category == 1) = true) (hr : M'.2.2.2.1.isSome = true) (hW : (rest.map fun v => v.category).sum ≤ 8) (hdd : d' + 1 ≤ d) (hbb : b1 ≤ b)
    (k : V E M' d' b1 0 (entL M'.2.2.1 (.ref am :: [x1, x2, x3, x4])) [] (mkM am B h0 g) (fun v h9 => V E M d (b - b1) (pc + 3) ls (v :: rest) h9 Q X) X) (hh : nocov M pc = true := by rfl) : V E M d b pc ls (x4 :: x3 :: x2 :: x1 :: .ref am :: rest) (mkM am B h0 g) Q X :=
  VO_c4 ok hdg q1 hh mkM_obj (by rw [hcl]; rfl) hcat hr hW hdd hbb k
theorem VS_c4 (ok : OkS M' 4) (hdg : decode M.2.1 pc = .ok (.invokestatic idx, 3)) (q1 : Cond.methodLink M.1.cls idx M'.1 ∈ lw_all) (hcat : ([x1, x2, x3, x4] : List Value).all (fun v => v.category == 1) = true) (hr : M'.2.2.2.1.isSome = true) (hW : (rest.map fun v => v.category).sum ≤ 8) (hdd : d' + 1 ≤ d) (hbb : b1 ≤ b)
    (k : V E M' d' b1 0 (entL M'.2.2.1 [x1, x2, x3, x4]) [] h (fun v h9 => V E M d (b - b1) (pc + 3) ls (v :: rest) h9 Q X) X) (hh : nocov M pc = true := by rfl) : V E M d b pc ls (x4 :: x3 :: x2 :: x1 :: rest) h Q X :=
  V_invS (As := [x1, x2, x3, x4]) ok hdg q1 hh rfl hcat hW hdd hbb (by
    have e : (fun v h9 => V E M d (b - b1) (pc + 3) ls (rv M' v ++ rest) h9 Q X) = (fun v h9 => V E M d (b - b1) (pc + 3) ls (v :: rest) h9 Q X) := by funext v h9; rw [rv_some hr]
    rw [e]; exact k)
theorem VO_v4 (ok : OkV M' 4) (hdg : decode M.2.1 pc = .ok (.invokevirtual idx, 3)) (q1 : Cond.methodLink M.1.cls idx M'.1 ∈ lw_all) (hh : nocov M pc = true) (ha : h a = some (oO ci fs)) (hci : clA[ci]? = some (M'.1.cls, T, N)) (hcat : ([x1, x2, x3, x4] : List Value).all (fun v => v.category == 1) = true) (hr : M'.2.2.2.1 = none) (hW : (rest.map fun v => v.category).sum ≤ 8) (hdd : d' + 1 ≤ d) (hbb : b1 ≤ b)
    (k : V E M' d' b1 0 (entL M'.2.2.1 (.ref a :: [x1, x2, x3, x4])) [] h (fun v h9 => V E M d (b - b1) (pc + 3) ls rest h9 Q X) X) : V E M d b pc ls (x4 :: x3 :: x2 :: x1 :: .ref a :: rest) h Q X :=
  V_invV (As := [x1, x2, x3, x4]) ok hdg q1 hh rfl ha hci hcat hW hdd hbb (by
    have e : (fun v h9 => V E M d (b - b1) (pc + 3) ls (rv M' v ++ rest) h9 Q X) = (fun v h9 => V E M d (b - b1) (pc + 3) ls rest h9 Q X) := by funext v h9; rw [rv_none hr]
    rw [e]; exact k)
theorem VM_v4 (ok : OkV M' 4) (hcl : M'.1.cls = RX7) (hdg : decode M.2.1 pc = .ok (.invokevirtual idx, 3)) (q1 : Cond.methodLink M.1.cls idx M'.1 ∈ lw_all) (hcat : ([x1, x2, x3, x4] : List Value).all (fun v => v.category == 1) = true) (hr : M'.2.2.2.1 = none) (hW : (rest.map fun v => v.category).sum ≤ 8) (hdd : d' + 1 ≤ d) (hbb : b1 ≤ b)
    (k : V E M' d' b1 0 (entL M'.2.2.1 (.ref am :: [x1, x2, x3, x4])) [] (mkM am B h0 g) (fun v h9 => V E M d (b - b1) (pc + 3) ls rest h9 Q X) X) (hh : nocov M pc = true := by rfl) : V E M d b pc ls (x4 :: x3 :: x2 :: x1 :: .ref am :: rest) (mkM am B h0 g) Q X :=
  VO_v4 ok hdg q1 hh mkM_obj (by rw [hcl]; rfl) hcat hr hW hdd hbb k
theorem VS_v4 (ok : OkS M' 4) (hdg : decode M.2.1 pc = .ok (.invokestatic idx, 3)) (q1 : Cond.methodLink M.1.cls idx M'.1 ∈ lw_all) (hcat : ([x1, x2, x3, x4] : List Value).all (fun v => v.category == 1) = true) (hr : M'.2.2.2.1 = none) (hW : (rest.map fun v => v.category).sum ≤ 8) (hdd : d' + 1 ≤ d) (hbb : b1 ≤ b)
    (k : V E M' d' b1 0 (entL M'.2.2.1 [x1, x2, x3, x4]) [] h (fun v h9 => V E M d (b - b1) (pc + 3) ls rest h9 Q X) X) (hh : nocov M pc = true := by rfl) : V E M d b pc ls (x4 :: x3 :: x2 :: x1 :: rest) h Q X :=
  V_invS (As := [x1, x2, x3, x4]) ok hdg q1 hh rfl hcat hW hdd hbb (by
    have e : (fun v h9 => V E M d (b - b1) (pc + 3) ls (rv M' v ++ rest) h9 Q X) = (fun v h9 => V E M d (b - b1) (pc + 3) ls rest h9 Q X) := by funext v h9; rw [rv_none hr]
    rw [e]; exact k)
theorem VO_c5 (ok : OkV M' 5) (hdg : decode M.2.1 pc = .ok (.invokevirtual idx, 3)) (q1 : Cond.methodLink M.1.cls idx M'.1 ∈ lw_all) (hh : nocov M pc = true) (ha : h a = some (oO ci fs)) (hci : clA[ci]? = some (M'.1.cls, T, N)) (hcat : ([x1, x2, x3, x4, x5] : List Value).all (fun v => v.category == 1) = true) (hr : M'.2.2.2.1.isSome = true) (hW : (rest.map fun v => v.category).sum ≤ 8) (hdd : d' + 1 ≤ d) (hbb : b1 ≤ b)
    (k : V E M' d' b1 0 (entL M'.2.2.1 (.ref a :: [x1, x2, x3, x4, x5])) [] h (fun v h9 => V E M d (b - b1) (pc + 3) ls (v :: rest) h9 Q X) X) : V E M d b pc ls (x5 :: x4 :: x3 :: x2 :: x1 :: .ref a :: rest) h Q X :=
  V_invV (As := [x1, x2, x3, x4, x5]) ok hdg q1 hh rfl ha hci hcat hW hdd hbb (by
    have e : (fun v h9 => V E M d (b - b1) (pc + 3) ls (rv M' v ++ rest) h9 Q X) = (fun v h9 => V E M d (b - b1) (pc + 3) ls (v :: rest) h9 Q X) := by funext v h9; rw [rv_some hr]
    rw [e]; exact k)
theorem VM_c5 (ok : OkV M' 5) (hcl : M'.1.cls = RX7) (hdg : decode M.2.1 pc = .ok (.invokevirtual idx, 3)) (q1 : Cond.methodLink M.1.cls idx M'.1 ∈ lw_all) (hcat : ([x1, x2, x3, x4, x5] : List Value).all (fun v => v.category == 1) = true) (hr : M'.2.2.2.1.isSome = true) (hW : (rest.map fun v => v.category).sum ≤ 8) (hdd : d' + 1 ≤ d) (hbb : b1 ≤ b)
    (k : V E M' d' b1 0 (entL M'.2.2.1 (.ref am :: [x1, x2, x3, x4, x5])) [] (mkM am B h0 g) (fun v h9 => V E M d (b - b1) (pc + 3) ls (v :: rest) h9 Q X) X) (hh : nocov M pc = true := by rfl) : V E M d b pc ls (x5 :: x4 :: x3 :: x2 :: x1 :: .ref am :: rest) (mkM am B h0 g) Q X :=
  VO_c5 ok hdg q1 hh mkM_obj (by rw [hcl]; rfl) hcat hr hW hdd hbb k
theorem VS_c5 (ok : OkS M' 5) (hdg : decode M.2.1 pc = .ok (.invokestatic idx, 3)) (q1 : Cond.methodLink M.1.cls idx M'.1 ∈ lw_all) (hcat : ([x1, x2, x3, x4, x5] : List Value).all (fun v => v.category == 1) = true) (hr : M'.2.2.2.1.isSome = true) (hW : (rest.map fun v => v.category).sum ≤ 8) (hdd : d' + 1 ≤ d) (hbb : b1 ≤ b)
    (k : V E M' d' b1 0 (entL M'.2.2.1 [x1, x2, x3, x4, x5]) [] h (fun v h9 => V E M d (b - b1) (pc + 3) ls (v :: rest) h9 Q X) X) (hh : nocov M pc = true := by rfl) : V E M d b pc ls (x5 :: x4 :: x3 :: x2 :: x1 :: rest) h Q X :=
  V_invS (As := [x1, x2, x3, x4, x5]) ok hdg q1 hh rfl hcat hW hdd hbb (by
    have e : (fun v h9 => V E M d (b - b1) (pc + 3) ls (rv M' v ++ rest) h9 Q X) = (fun v h9 => V E M d (b - b1) (pc + 3) ls (v :: rest) h9 Q X) := by funext v h9; rw [rv_some hr]
    rw [e]; exact k)
theorem VO_v5 (ok : OkV M' 5) (hdg : decode M.2.1 pc = .ok (.invokevirtual idx, 3)) (q1 : Cond.methodLink M.1.cls idx M'.1 ∈ lw_all) (hh : nocov M pc = true) (ha : h a = some (oO ci fs)) (hci : clA[ci]? = some (M'.1.cls, T, N)) (hcat : ([x1, x2, x3, x4, x5] : List Value).all (fun v => v.category == 1) = true) (hr : M'.2.2.2.1 = none) (hW : (rest.map fun v => v.category).sum ≤ 8) (hdd : d' + 1 ≤ d) (hbb : b1 ≤ b)
    (k : V E M' d' b1 0 (entL M'.2.2.1 (.ref a :: [x1, x2, x3, x4, x5])) [] h (fun v h9 => V E M d (b - b1) (pc + 3) ls rest h9 Q X) X) : V E M d b pc ls (x5 :: x4 :: x3 :: x2 :: x1 :: .ref a :: rest) h Q X :=
  V_invV (As := [x1, x2, x3, x4, x5]) ok hdg q1 hh rfl ha hci hcat hW hdd hbb (by
    have e : (fun v h9 => V E M d (b - b1) (pc + 3) ls (rv M' v ++ rest) h9 Q X) = (fun v h9 => V E M d (b - b1) (pc + 3) ls rest h9 Q X) := by funext v h9; rw [rv_none hr]
    rw [e]; exact k)
theorem VM_v5 (ok : OkV M' 5) (hcl : M'.1.cls = RX7) (hdg : decode M.2.1 pc = .ok (.invokevirtual idx, 3)) (q1 : Cond.methodLink M.1.cls idx M'.1 ∈ lw_all) (hcat : ([x1, x2, x3, x4, x5] : List Value).all (fun v => v.category == 1) = true) (hr : M'.2.2.2.1 = none) (hW : (rest.map fun v => v.category).sum ≤ 8) (hdd : d' + 1 ≤ d) (hbb : b1 ≤ b)
    (k : V E M' d' b1 0 (entL M'.2.2.1 (.ref am :: [x1, x2, x3, x4, x5])) [] (mkM am B h0 g) (fun v h9 => V E M d (b - b1) (pc + 3) ls rest h9 Q X) X) (hh : nocov M pc = true := by rfl) : V E M d b pc ls (x5 :: x4 :: x3 :: x2 :: x1 :: .ref am :: rest) (mkM am B h0 g) Q X :=
  VO_v5 ok hdg q1 hh mkM_obj (by rw [hcl]; rfl) hcat hr hW hdd hbb k
theorem VS_v5 (ok : OkS M' 5) (hdg : decode M.2.1 pc = .ok (.invokestatic idx, 3)) (q1 : Cond.methodLink M.1.cls idx M'.1 ∈ lw_all) (hcat : ([x1, x2, x3, x4, x5] : List Value).all (fun v => v.category == 1) = true) (hr : M'.2.2.2.1 = none) (hW : (rest.map fun v => v.category).sum ≤ 8) (hdd : d' + 1 ≤ d) (hbb : b1 ≤ b)
    (k : V E M' d' b1 0 (entL M'.2.2.1 [x1, x2, x3, x4, x5]) [] h (fun v h9 => V E M d (b - b1) (pc + 3) ls rest h9 Q X) X) (hh : nocov M pc = true := by rfl) : V E M d b pc ls (x5 :: x4 :: x3 :: x2 :: x1 :: rest) h Q X :=
  V_invS (As := [x1, x2, x3, x4, x5]) ok hdg q1 hh rfl hcat hW hdd hbb (by
    have e : (fun v h9 => V E M d (b - b1) (pc + 3) ls (rv M' v ++ rest) h9 Q X) = (fun v h9 => V E M d (b - b1) (pc + 3) ls rest h9 Q X) := by funext v h9; rw [rv_none hr]
    rw [e]; exact k)
end VMc
