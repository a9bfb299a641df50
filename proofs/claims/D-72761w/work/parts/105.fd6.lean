/-! FOUNDATION 6: calls of inherited, overridden, abstract methods; of interfaces' methods; of nest mates' -/
/-- what a callee's own words say: an instance method of n arguments -/
def OkM (M : Mt) (n : Nat) : Prop := Cond.instanceMethod M.1 ∈ lw_all ∧ Cond.initialized M.1.cls ∈ lw_all ∧ Cond.code M.1 M.2.1 M.2.2.1 M.2.2.2.1 ∈ lw_all ∧ plainName M.1.cls = true ∧ M.2.2.2.2 = [] ∧ M.2.2.1 ≤ 81 ∧ n + 1 ≤ M.2.2.1
/-- a reference's name: of n arguments -/
def OkX (o : String) (x : MethodName) (n : Nat) : Prop := o ≠ "java/lang/invoke/MethodHandle" ∧ o ≠ "java/lang/invoke/VarHandle" ∧ (parseMethodDescriptor x.desc).map (fun d => d.parameters.length) = some n
theorem lw_U {own : String} {idx : Nat} {C owner : String} {x y : MethodName} {b : ByteArray} {L : Nat} {r : Option FieldType} (h1 : Cond.methodLink own idx x ∈ lw_all) (h2 : Cond.sameMethod x.cls owner x.name x.desc ∈ lw_all) (h3 : Cond.selects C x y ∈ lw_all) (h4 : Cond.instanceMethod y ∈ lw_all) (h5 : Cond.initialized y.cls ∈ lw_all) (h6 : Cond.code y b L r ∈ lw_all) : GoodIn lw_all (va_wsU own idx C owner x y (ws_ y b L r)) := by
  refine lw_app ?_ (lw_meth h6)
  intro w hw
  simp only [List.mem_cons, List.not_mem_nil, or_false] at hw
  rcases hw with e | e | e | e | e
  · rw [e]; exact h1
  · rw [e]; exact h2
  · rw [e]; exact h3
  · rw [e]; exact h4
  · rw [e]; exact h5
theorem lw_O {own : String} {idx : Nat} {C owner : String} {x y : MethodName} {b : ByteArray} {L : Nat} {r : Option FieldType} (h1 : Cond.methodLink own idx x ∈ lw_all) (h2 : Cond.sameMethod x.cls owner x.name x.desc ∈ lw_all) (h7 : Cond.instanceMethod ⟨owner, x.name, x.desc⟩ ∈ lw_all) (h3 : Cond.selects C x y ∈ lw_all) (h4 : Cond.instanceMethod y ∈ lw_all) (h5 : Cond.initialized y.cls ∈ lw_all) (h6 : Cond.code y b L r ∈ lw_all) : GoodIn lw_all (va_wsO own idx C owner x y (ws_ y b L r)) := by
  refine lw_app ?_ (lw_meth h6)
  intro w hw
  simp only [List.mem_cons, List.not_mem_nil, or_false] at hw
  rcases hw with e | e | e | e | e | e
  · rw [e]; exact h1
  · rw [e]; exact h2
  · rw [e]; exact h7
  · rw [e]; exact h3
  · rw [e]; exact h4
  · rw [e]; exact h5
theorem lw_F {own : String} {idx : Nat} {C : String} {x y : MethodName} {b : ByteArray} {L : Nat} {r : Option FieldType} (h1 : Cond.methodLink own idx x ∈ lw_all) (h3 : Cond.selects C x y ∈ lw_all) (h4 : Cond.instanceMethod y ∈ lw_all) (h5 : Cond.initialized y.cls ∈ lw_all) (h6 : Cond.code y b L r ∈ lw_all) : GoodIn lw_all (va_wsF own idx C x y (ws_ y b L r)) := by
  refine lw_app ?_ (lw_meth h6)
  intro w hw
  simp only [List.mem_cons, List.not_mem_nil, or_false] at hw
  rcases hw with e | e | e | e
  · rw [e]; exact h1
  · rw [e]; exact h3
  · rw [e]; exact h4
  · rw [e]; exact h5
section Rules6
variable {E : Ev} {M M' : Mt} {d d' b b1 pc idx a ci N : Nat} {C0 owner : String} {x : MethodName} {T : u_T} {ls : List (Option Value)} {As st rest : List Value} {h : AH} {Q : Value → AH → Prop} {X : Nat → AH → Prop}
/-- how a method is named, and found -/
def LkU (M : Mt) (idx : Nat) (C0 owner : String) (x : MethodName) (M' : Mt) : Prop := Cond.methodLink M.1.cls idx x ∈ lw_all ∧ Cond.sameMethod x.cls owner x.name x.desc ∈ lw_all ∧ Cond.selects C0 x M'.1 ∈ lw_all
theorem V_invG (ok : OkM M' As.length) (hdg : decode M.2.1 pc = .ok (.invokevirtual idx, 3)) (hh : nocov M pc = true)
    (hcw : ∀ (R : Room) (s : State) (args : Array Value), (∀ w ∈ lw_all, w.before args s = true) → KE E s → (rmV d' b1).frames + 1 ≤ R.frames ∧ 8 + (M'.2.2.1 + 11) + (rmV d' b1).locals ≤ R.locals → va_CU R s args M.1.cls C0 owner idx x M'.1 M'.2.1 M'.2.2.1 M'.2.2.2.1 (ws_ M'.1 M'.2.1 M'.2.2.1 M'.2.2.2.1) (rmV d' b1) b1 b1 As.length)
    (hst : st = As.reverse ++ .ref a :: rest) (ha : clsE E h a ci) (hci : clA[ci]? = some (C0, T, N)) (hcat : As.all (fun v => v.category == 1) = true) (hW : (rest.map fun v => v.category).sum ≤ 8) (hdd : d' + 1 ≤ d) (hbb : b1 ≤ b)
    (k : V E M' d' b1 0 (entL M'.2.2.1 (.ref a :: As)) [] h (fun v h' => V E M d (b - b1) (pc + 3) ls (rv M' v ++ rest) h' Q X) X) : V E M d b pc ls st h Q X := by
  obtain ⟨q2, q4, q5, hpl, hh', hLL, hn⟩ := ok
  intro p l e R s m args below meth c H locs cells slots mc ms arr C hS hR hL h1 h2 h3 h4 h5 h6
  have hts := C.2.2.2.2.1
  have hM := V.met (l := l) C.2.2.2.2.2.2.2.2.2.2 hpl hh' (catB hcat) (by simpa using hn) k
  obtain ⟨fs, hP⟩ := clsE.P C.2.2.2.2.2.2.2.2.2.1 hR ha
  have hrc := va_recv C.2.2.2.2.2.2.2.2.2.1.1 hP hci (q0 := 0) (fs := fs) rfl
  exact V_fin hh C hS hL h1 h2 (b1 := b1) (b2 := b - b1) (by omega) (by omega) h5 h6 (vx_runU (As := As) (rest := rest) ⟨C.1, C.2.1, C.2.2.1, C.2.2.2.1, hts⟩ hM (hcw R s args hts C.2.2.2.2.2.2.2.2.2.1 (V_hR hdd hLL h1 h2)) ⟨PcV.blind, hrc, fun U e1 hW => ⟨rfl, by rw [e1]; exact hR, C.2.2.2.2.2.2.2.2.2.1.moved hW⟩⟩ rfl rfl hL.1 hst (by show 2 * 0 + _ ≤ 8; simpa using hW) hdg ⟨by omega, by omega⟩) (fun v h' hq => hq)
/-- an inherited method -/
theorem V_invU (ok : OkM M' As.length) (okx : OkX owner x As.length) (hdg : decode M.2.1 pc = .ok (.invokevirtual idx, 3)) (lk : LkU M idx C0 owner x M') (hy : M'.1 = ⟨owner, x.name, x.desc⟩) (hh : nocov M pc = true)
    (hst : st = As.reverse ++ .ref a :: rest) (ha : clsE E h a ci) (hci : clA[ci]? = some (C0, T, N)) (hcat : As.all (fun v => v.category == 1) = true) (hW : (rest.map fun v => v.category).sum ≤ 8) (hdd : d' + 1 ≤ d) (hbb : b1 ≤ b)
    (k : V E M' d' b1 0 (entL M'.2.2.1 (.ref a :: As)) [] h (fun v h' => V E M d (b - b1) (pc + 3) ls (rv M' v ++ rest) h' Q X) X) : V E M d b pc ls st h Q X :=
  V_invG ok hdg hh (fun R s args hts _ hR => va_cwU As.length hts (lw_U lk.1 lk.2.1 lk.2.2 ok.1 ok.2.1 ok.2.2.1) rfl rfl rfl hy okx hR) hst ha hci hcat hW hdd hbb k
/-- an overriding one -/
theorem V_invO {b0 : ByteArray} {m0 : Nat} {r0 : Option FieldType} (ok : OkM M' As.length) (okx : OkX owner x As.length) (hdg : decode M.2.1 pc = .ok (.invokevirtual idx, 3)) (lk : LkU M idx C0 owner x M') (q7 : Cond.instanceMethod ⟨owner, x.name, x.desc⟩ ∈ lw_all) (q8 : Cond.code ⟨owner, x.name, x.desc⟩ b0 m0 r0 ∈ lw_all) (hh : nocov M pc = true)
    (hst : st = As.reverse ++ .ref a :: rest) (ha : clsE E h a ci) (hci : clA[ci]? = some (C0, T, N)) (hcat : As.all (fun v => v.category == 1) = true) (hW : (rest.map fun v => v.category).sum ≤ 8) (hdd : d' + 1 ≤ d) (hbb : b1 ≤ b)
    (k : V E M' d' b1 0 (entL M'.2.2.1 (.ref a :: As)) [] h (fun v h' => V E M d (b - b1) (pc + 3) ls (rv M' v ++ rest) h' Q X) X) : V E M d b pc ls st h Q X :=
  V_invG ok hdg hh (fun R s args hts _ hR => va_cwO As.length hts (lw_O lk.1 lk.2.1 q7 lk.2.2 ok.1 ok.2.1 ok.2.2.1) rfl rfl rfl q8 okx hR) hst ha hci hcat hW hdd hbb k
/-- one whose named method is abstract -/
theorem V_invA (ok : OkM M' As.length) (okx : OkX owner x As.length) (hdg : decode M.2.1 pc = .ok (.invokevirtual idx, 3)) (lk : LkU M idx C0 owner x M') (q7 : Cond.declares ⟨owner, x.name, x.desc⟩ ∈ lw_nt) (hh : nocov M pc = true)
    (hst : st = As.reverse ++ .ref a :: rest) (ha : clsE E h a ci) (hci : clA[ci]? = some (C0, T, N)) (hcat : As.all (fun v => v.category == 1) = true) (hW : (rest.map fun v => v.category).sum ≤ 8) (hdd : d' + 1 ≤ d) (hbb : b1 ≤ b)
    (k : V E M' d' b1 0 (entL M'.2.2.1 (.ref a :: As)) [] h (fun v h' => V E M d (b - b1) (pc + 3) ls (rv M' v ++ rest) h' Q X) X) : V E M d b pc ls st h Q X :=
  V_invG ok hdg hh (fun R s args hts hK hR => va_cwA As.length hts (lw_U lk.1 lk.2.1 lk.2.2 ok.1 ok.2.1 ok.2.2.1) rfl rfl rfl (hK.2.1 _ q7 rfl) okx hR) hst ha hci hcat hW hdd hbb k
/-- a nest mate's constructor -/
theorem V_invIN {host : String} (ok : OkI M' As.length) (hdg : decode M.2.1 pc = .ok (.invokespecial idx, 3)) (q1 : Cond.methodLinkNest M.1.cls idx M'.1 host ∈ lw_nt) (hh : nocov M pc = true)
    (hst : st = As.reverse ++ .ref a :: rest) (hcat : As.all (fun v => v.category == 1) = true) (hW : (rest.map fun v => v.category).sum ≤ 8) (hdd : d' + 1 ≤ d) (hbb : b1 ≤ b)
    (k : V E M' d' b1 0 (entL M'.2.2.1 (.ref a :: As)) [] h (fun _ h' => V E M d (b - b1) (pc + 3) ls rest h' Q X) X) : V E M d b pc ls st h Q X := by
  obtain ⟨q2, q4, q5, hr0, hnm, hd, hpl, hh', hLL, hn⟩ := ok
  intro p l e R s m args below meth c H locs cells slots mc ms arr C hS hR hL h1 h2 h3 h4 h5 h6
  have hts := C.2.2.2.2.1
  have hM := V.met (l := l) C.2.2.2.2.2.2.2.2.2.2 hpl hh' (catB hcat) (by simpa using hn) k
  rw [show ws_ M'.1 M'.2.1 M'.2.2.1 M'.2.2.2.1 = ws_ M'.1 M'.2.1 M'.2.2.1 none by rw [hr0]] at hM
  exact V_fin (M' := M') hh C hS hL h1 h2 (b1 := b1) (b2 := b - b1) (by omega) (by omega) h5 h6 (vx_runIN (As := As) (rest := rest) ⟨C.1, C.2.1, C.2.2.1, C.2.2.2.1, hts⟩ hM ⟨va_cnB As.length hts (lw_meth q5) rfl rfl rfl (C.2.2.2.2.2.2.2.2.2.1.2.1 _ q1 rfl) (hts _ q4) hd (V_hR hdd hLL h1 h2), hnm, hts _ q2⟩ ⟨PcV.blind, fun U e1 hW => ⟨rfl, by rw [e1]; exact hR, C.2.2.2.2.2.2.2.2.2.1.moved hW⟩⟩ rfl rfl hL.1 hst (by show 2 * 0 + _ ≤ 8; simpa using hW) hdg ⟨by omega, by omega⟩) (fun v h' hq => by rw [hr0]; exact hq)
/-- a nest mate's static method -/
theorem V_invSN {host : String} (ok : OkS M' As.length) (hdg : decode M.2.1 pc = .ok (.invokestatic idx, 3)) (q1 : Cond.methodLinkNest M.1.cls idx M'.1 host ∈ lw_nt) (hh : nocov M pc = true)
    (hst : st = As.reverse ++ rest) (hcat : As.all (fun v => v.category == 1) = true) (hW : (rest.map fun v => v.category).sum ≤ 8) (hdd : d' + 1 ≤ d) (hbb : b1 ≤ b)
    (k : V E M' d' b1 0 (entL M'.2.2.1 As) [] h (fun v h' => V E M d (b - b1) (pc + 3) ls (rv M' v ++ rest) h' Q X) X) : V E M d b pc ls st h Q X := by
  obtain ⟨q2, q4, q5, hd, hpl, hh', hLL, hn⟩ := ok
  intro p l e R s m args below meth c H locs cells slots mc ms arr C hS hR hL h1 h2 h3 h4 h5 h6
  have hts := C.2.2.2.2.1
  have hM := V.met (l := l) C.2.2.2.2.2.2.2.2.2.2 hpl hh' (catA hcat) hn k
  exact V_fin hh C hS hL h1 h2 (b1 := b1) (b2 := b - b1) (by omega) (by omega) h5 h6 (vx_runSN (As := As) (rest := rest) ⟨C.1, C.2.1, C.2.2.1, C.2.2.2.1, hts⟩ hM ⟨va_cnB As.length hts (lw_meth q5) rfl rfl rfl (C.2.2.2.2.2.2.2.2.2.1.2.1 _ q1 rfl) (hts _ q4) hd (V_hR hdd hLL h1 h2), hts _ q2, trivial⟩ ⟨PcV.blind, fun U e1 hW => ⟨rfl, by rw [e1]; exact hR, C.2.2.2.2.2.2.2.2.2.1.moved hW⟩⟩ rfl rfl hL.1 hst (by show 2 * 0 + _ ≤ 8; simpa using hW) hdg ⟨by omega, by omega⟩) (fun v h' hq => hq)
/-- a nest mate's method -/
theorem V_invVN {host : String} (ok : OkV M' As.length) (hdg : decode M.2.1 pc = .ok (.invokevirtual idx, 3)) (q1 : Cond.methodLinkNest M.1.cls idx M'.1 host ∈ lw_nt) (hh : nocov M pc = true)
    (hst : st = As.reverse ++ .ref a :: rest) (ha : clsE E h a ci) (hci : clA[ci]? = some (M'.1.cls, T, N)) (hcat : As.all (fun v => v.category == 1) = true) (hW : (rest.map fun v => v.category).sum ≤ 8) (hdd : d' + 1 ≤ d) (hbb : b1 ≤ b)
    (k : V E M' d' b1 0 (entL M'.2.2.1 (.ref a :: As)) [] h (fun v h' => V E M d (b - b1) (pc + 3) ls (rv M' v ++ rest) h' Q X) X) : V E M d b pc ls st h Q X := by
  obtain ⟨q2, q3, q4, q5, hd, hpl, hh', hLL, hn⟩ := ok
  intro p l e R s m args below meth c H locs cells slots mc ms arr C hS hR hL h1 h2 h3 h4 h5 h6
  have hts := C.2.2.2.2.1
  have hM := V.met (l := l) C.2.2.2.2.2.2.2.2.2.2 hpl hh' (catB hcat) (by simpa using hn) k
  obtain ⟨fs, hP⟩ := clsE.P C.2.2.2.2.2.2.2.2.2.1 hR ha
  have hrc := va_recv C.2.2.2.2.2.2.2.2.2.1.1 hP hci (q0 := 0) (fs := fs) rfl
  exact V_fin hh C hS hL h1 h2 (b1 := b1) (b2 := b - b1) (by omega) (by omega) h5 h6 (vx_runVN (As := As) (rest := rest) ⟨C.1, C.2.1, C.2.2.1, C.2.2.2.1, hts⟩ hM ⟨va_cnB As.length hts (lw_meth q5) rfl rfl rfl (C.2.2.2.2.2.2.2.2.2.1.2.1 _ q1 rfl) (hts _ q4) hd.2 (V_hR hdd hLL h1 h2), hts _ q2, hts _ q3⟩ ⟨PcV.blind, hrc, fun U e1 hW => ⟨rfl, by rw [e1]; exact hR, C.2.2.2.2.2.2.2.2.2.1.moved hW⟩⟩ rfl rfl hL.1 hst (by show 2 * 0 + _ ≤ 8; simpa using hW) hdg ⟨by omega, by omega⟩) (fun v h' hq => hq)
/-- through an interface -/
theorem V_invF {cnt : Nat} (ok : OkM M' As.length) (okx : OkX x.cls x As.length) (hdg : decode M.2.1 pc = .ok (.invokeinterface idx cnt, 5)) (q1 : Cond.methodLink M.1.cls idx x ∈ lw_all) (q3 : Cond.selects C0 x M'.1 ∈ lw_all)
    (f1 : Cond.declares x ∈ lw_nt) (f2 : Cond.interfaceMethod x.cls x.cls x.name x.desc ∈ lw_nt) (f3 : Cond.publicMethod M'.1 ∈ lw_nt) (f4 : Cond.unhidden C0 x.name x.desc ∈ lw_nt) (f5 : Cond.castable C0 x.cls ∈ lw_nt) (hh : nocov M pc = true)
    (hst : st = As.reverse ++ .ref a :: rest) (ha : clsE E h a ci) (hci : clA[ci]? = some (C0, T, N)) (hcat : As.all (fun v => v.category == 1) = true) (hW : (rest.map fun v => v.category).sum ≤ 8) (hdd : d' + 1 ≤ d) (hbb : b1 ≤ b)
    (k : V E M' d' b1 0 (entL M'.2.2.1 (.ref a :: As)) [] h (fun v h' => V E M d (b - b1) (pc + 5) ls (rv M' v ++ rest) h' Q X) X) : V E M d b pc ls st h Q X := by
  obtain ⟨q2, q4, q5, hpl, hh', hLL, hn⟩ := ok
  intro p l e R s m args below meth c H locs cells slots mc ms arr C hS hR hL h1 h2 h3 h4 h5 h6
  have hts := C.2.2.2.2.1
  have hM := V.met (l := l) C.2.2.2.2.2.2.2.2.2.2 hpl hh' (catB hcat) (by simpa using hn) k
  obtain ⟨fs, hP⟩ := clsE.P C.2.2.2.2.2.2.2.2.2.1 hR ha
  have hrc := va_recv C.2.2.2.2.2.2.2.2.2.1.1 hP hci (q0 := 0) (fs := fs) rfl
  have hat := (C.2.2.2.2.2.2.2.2.2.1.1.1 ci _ hci).2
  exact V_fin hh C hS hL h1 h2 (b1 := b1) (b2 := b - b1) (by omega) (by omega) h5 h6 (vx_runF hat (As := As) (rest := rest) ⟨C.1, C.2.1, C.2.2.1, C.2.2.2.1, hts⟩ hM (va_cwF As.length hts (lw_F q1 q3 q2 q4 q5) rfl rfl rfl (C.2.2.2.2.2.2.2.2.2.1.2.2.1 _ _ _ ⟨okx.1, okx.2.1⟩ f1 f2 f3 f4 f5) okx (V_hR hdd hLL h1 h2)) ⟨PcV.blind, hrc, fun U e1 hW => ⟨rfl, by rw [e1]; exact hR, C.2.2.2.2.2.2.2.2.2.1.moved hW⟩⟩ rfl rfl hL.1 hst (by show 2 * 0 + _ ≤ 8; simpa using hW) hdg ⟨by omega, by omega⟩) (fun v h' hq => hq)
end Rules6
