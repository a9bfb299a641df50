/-! FOUNDATION 7: throwing, and catching -/
section Rules7
variable {E : Ev} {M M' : Mt} {d d' b b1 b2 pc idx a ci N : Nat} {T : u_T} {ls : List (Option Value)} {As st rest : List Value} {fs : List Value} {h : AH} {Q Q1 : Value → AH → Prop} {X X' : Nat → AH → Prop}
/-- athrow, where nothing catches -/
theorem V_athrow {q : Nat} (hdg : decode M.2.1 pc = .ok (.athrow, 1)) (hh : nocov M pc = true) (hq : h q = some (oO 7 fs)) (hX : X q h) : V E M d b pc ls (.ref q :: rest) h Q X := by
  intro p l e R s m args below meth c H locs cells slots mc ms arr C hS hR hL h1 h2 h3 h4 h5 h6
  refine vx_athrow C.1 C.2.1 hdg ?_
  have hout : ∀ x ∈ c.exceptionTable.toList, covers x pc = false := by
    intro x hx
    rw [C.2.2.2.2.2.2.2.2.1] at hx
    have := List.all_eq_true.mp hh x hx
    cases hc : covers x pc with
    | false => rfl
    | true => rw [hc] at this; cases this
  obtain ⟨q', e1, cell, g1, g2, g3, -⟩ := (hR.one (c := .inr (7, fs)) hq) 0 _ rfl
  have hcl := (C.2.2.2.2.2.2.2.2.2.1.1.1 7 (RX9, TX9, 7) rfl).2.1
  cases e1
  exact vx_out (E := RX9) hout C.2.2.2.2.2.2.1 g1 g3 (by rw [g2]; exact hcl) (fun t2 ht2 _ => ⟨rfl, h, hX, by rw [ht2]; exact hR⟩) (fun z hz => hS.2.2 z hz) (by omega) (by omega)
/-- behind a run of a callee that may throw: the handler over it goes on -/
theorem V_finH {n lo hi hd ct : Nat} {p : Program} {l : Launch} {e : Env} {R : Room} {s : State} {m : MethodId} {args a1 : Array Value} {below : List Frame} {meth : Method} {c : Code} {H : Heap} {locs : List Loc} {cells slots mc ms : Nat} {arr : Array Slot} {st : List Value}
    (hh : M.2.2.2.2 = [(lo, hi, hd, ct)]) (hcv : covers ⟨lo, hi, hd, ct⟩ pc = true) (hct : ct ≠ 0) (hlk : Cond.classLink M.1.cls ct RX9 ∈ lw_all) (C : Cx E M p l s m args meth c) (hS : va_S (Bs E) E.2.2.1 H locs) (hL : lvR arr M.2.2.1 ls) (h1 : d ≤ R.frames) (h2 : 100 * d ≤ R.locals) (h3 : cells + (b1 + b2) ≤ mc) (h4 : slots + (b1 + b2) ≤ ms) (h5 : mc ≤ R.cells) (h6 : ms ≤ R.slots)
    (hr : ∀ T : State, T.heap = H → Stand p l e R s m args below meth c T locs cells slots →
    (∃ (v : Option Value) (st₀ t T' : State) (L : List Loc), st₀.heap = H ∧ Stand p l e R s m args below meth c T' (locs ++ L) (cells + b1) (slots + b1) ∧ (∀ q ∈ L, Bs E q.base) ∧ T'.heap = t.heap ∧ T'.vm = t.vm ∧ QcV E M' Q1 a1 st₀ (.returned v) t ∧
      Goes p e below T (F0 m pc arr st) T' { (F0 m pc arr st) with pc := (F0 m pc arr st).pc + n, stack := v.toList ++ rest }) ∨
    (∃ (q : Addr) (st₀ t T' : State) (L : List Loc) (E1 : String) (ce : Cell), st₀.heap = H ∧ Stand p l e R s m args below meth c T' (locs ++ L) (cells + b1) (slots + b1) ∧ (∀ z ∈ L, Bs E z.base) ∧ T'.heap = t.heap ∧ T'.vm = t.vm ∧ XcV E X' E1 q st₀ t ∧ t.heap[q]? = some ce ∧ ce.vm = .none ∧ s.vm.findClass E1 = some ce.cls ∧
      Steps p.tables e below (T.setTop (F0 m pc arr st)) ((T'.setTop { (F0 m pc arr st) with stack := rest }).pushFrame (.throwing q))))
    (k : ∀ (v : Value) (h' : AH), Q1 v h' → V E M d b2 (pc + n) ls ((match M'.2.2.2.1 with | none => none | some _ => some v).toList ++ rest) h' Q X)
    (kH : ∀ (q : Nat) (h' : AH), X' q h' → V E M d b2 hd ls [.ref q] h' Q X) :
    W p l e R s m args below meth c H locs cells slots (vx_MQ below (QcV E M Q) (XcV E X) args s mc ms (Bs E)) (F0 m pc arr st) := by
  intro T hT X0
  rcases hr T hT X0 with ⟨v, st₀, t, T', L, e0, X1, hLL, e1, e2, ⟨w, h', ew, hq, hR'⟩, st1⟩ | ⟨q, st₀, t, T', L, E1, ce, e0, X1, hLL, e1, e2, hx, hce, hcv1, hcl, st1⟩
  · cases ew
    have hR2 : Rel E h' T'.heap := by rw [e1]; exact hR'
    have hS2 : va_S (Bs E) E.2.2.1 T'.heap (locs ++ L) := ⟨hR2.1.1, fun q g1 g2 => hR2.1.2 q g1, fun q hq => by
      rcases List.mem_append.mp hq with g | g
      · exact hS.2.2 q g
      · exact hLL q g⟩
    obtain ⟨t9, a1, a2⟩ := k w h' hq p l e R s m args below meth c T'.heap (locs ++ L) (cells + b1) (slots + b1) mc ms arr C hS2 hR2 hL h1 h2 (by omega) (by omega) h5 h6 T' rfl X1
    exact ⟨t9, st1 t9 a1, a2⟩
  · obtain ⟨hcl9, h', hX, hR'⟩ := hx
    subst hcl9
    have hR2 : Rel E h' T'.heap := by rw [e1]; exact hR'
    have hS2 : va_S (Bs E) E.2.2.1 T'.heap (locs ++ L) := ⟨hR2.1.1, fun q g1 g2 => hR2.1.2 q g1, fun q hq => by
      rcases List.mem_append.mp hq with g | g
      · exact hS.2.2 q g
      · exact hLL q g⟩
    have k2 : vx_W p l e R s m args below meth c T'.heap (locs ++ L) (cells + b1) (slots + b1) (vx_MQ below (QcV E M Q) (XcV E X) args s mc ms (Bs E)) (F0 m pc arr rest) q :=
      vx_catch (own := M.1.cls) (name := RX9) C.2.2.2.1 [] ⟨lo, hi, hd, ct⟩ [] (by rw [C.2.2.2.2.2.2.2.2.1, hh]; rfl) (fun z hz => by cases hz) hcv hct (C.2.2.2.2.1 _ hlk) (va_Nw.use rfl (C.2.2.2.2.2.2.2.2.2.1.2.1 _ (List.mem_append_left _ q1273) rfl)) (by rw [e1]; exact hce) hcv1 hcl (kH q h' hX p l e R s m args below meth c T'.heap (locs ++ L) (cells + b1) (slots + b1) mc ms arr C hS2 hR2 hL h1 h2 (by omega) (by omega) h5 h6)
    obtain ⟨t9, a1, a2⟩ := k2 T' rfl X1
    exact ⟨t9, st1.trans a1, a2⟩
/-- o.m(..) under a handler -/
theorem V_invVH {lo hi hd ct : Nat} (ok : OkV M' As.length) (hdg : decode M.2.1 pc = .ok (.invokevirtual idx, 3)) (q1 : Cond.methodLink M.1.cls idx M'.1 ∈ lw_all) (hh : M.2.2.2.2 = [(lo, hi, hd, ct)]) (hcv : covers ⟨lo, hi, hd, ct⟩ pc = true) (hct : ct ≠ 0) (hlk : Cond.classLink M.1.cls ct RX9 ∈ lw_all)
    (hst : st = As.reverse ++ .ref a :: rest) (ha : clsE E h a ci) (hci : clA[ci]? = some (M'.1.cls, T, N)) (hcat : As.all (fun v => v.category == 1) = true) (hW : (rest.map fun v => v.category).sum ≤ 8) (hdd : d' + 1 ≤ d) (hbb : b1 ≤ b)
    (k : V E M' d' b1 0 (entL M'.2.2.1 (.ref a :: As)) [] h (fun v h' => V E M d (b - b1) (pc + 3) ls (rv M' v ++ rest) h' Q X) (fun q h' => V E M d (b - b1) hd ls [.ref q] h' Q X)) : V E M d b pc ls st h Q X := by
  obtain ⟨q2, q3, q4, q5, hd', hpl, hh', hLL, hn⟩ := ok
  intro p l e R s m args below meth c H locs cells slots mc ms arr C hS hR hL h1 h2 h3 h4 h5 h6
  have hts := C.2.2.2.2.1
  have hM := V.met (l := l) C.2.2.2.2.2.2.2.2.2.2 hpl hh' (catB hcat) (by simpa using hn) k
  obtain ⟨fs, hP⟩ := clsE.P C.2.2.2.2.2.2.2.2.2.1 hR ha
  have hrc := va_recv C.2.2.2.2.2.2.2.2.2.1.1 hP hci (q0 := 0) (fs := fs) rfl
  exact V_finH hh hcv hct hlk C hS hL h1 h2 (b1 := b1) (b2 := b - b1) (by omega) (by omega) h5 h6 (vx_runV (As := As) (rest := rest) ⟨C.1, C.2.1, C.2.2.1, C.2.2.2.1, hts⟩ hM (cwV As.length hts (lw_V q1 q2 q3 q4 q5) rfl rfl rfl hd' (V_hR hdd hLL h1 h2)) ⟨PcV.blind, hrc, fun U e1 hW => ⟨rfl, by rw [e1]; exact hR, C.2.2.2.2.2.2.2.2.2.1.moved hW⟩⟩ rfl rfl hL.1 hst (by show 2 * 0 + _ ≤ 8; simpa using hW) hdg ⟨by omega, by omega⟩) (fun v h' hq => hq) (fun q h' hq => hq)
/-- a nest mate's constructor under a handler -/
theorem V_invINH {host : String} {lo hi hd ct : Nat} (ok : OkI M' As.length) (hdg : decode M.2.1 pc = .ok (.invokespecial idx, 3)) (q1 : Cond.methodLinkNest M.1.cls idx M'.1 host ∈ lw_nt) (hh : M.2.2.2.2 = [(lo, hi, hd, ct)]) (hcv : covers ⟨lo, hi, hd, ct⟩ pc = true) (hct : ct ≠ 0) (hlk : Cond.classLink M.1.cls ct RX9 ∈ lw_all)
    (hst : st = As.reverse ++ .ref a :: rest) (hcat : As.all (fun v => v.category == 1) = true) (hW : (rest.map fun v => v.category).sum ≤ 8) (hdd : d' + 1 ≤ d) (hbb : b1 ≤ b)
    (k : V E M' d' b1 0 (entL M'.2.2.1 (.ref a :: As)) [] h (fun _ h' => V E M d (b - b1) (pc + 3) ls rest h' Q X) (fun _ _ => False)) : V E M d b pc ls st h Q X := by
  obtain ⟨q2, q4, q5, hr0, hnm, hd', hpl, hh', hLL, hn⟩ := ok
  intro p l e R s m args below meth c H locs cells slots mc ms arr C hS hR hL h1 h2 h3 h4 h5 h6
  have hts := C.2.2.2.2.1
  have hM := V.met (l := l) C.2.2.2.2.2.2.2.2.2.2 hpl hh' (catB hcat) (by simpa using hn) k
  rw [show ws_ M'.1 M'.2.1 M'.2.2.1 M'.2.2.2.1 = ws_ M'.1 M'.2.1 M'.2.2.1 none by rw [hr0]] at hM
  exact V_finH (M' := M') hh hcv hct hlk C hS hL h1 h2 (b1 := b1) (b2 := b - b1) (by omega) (by omega) h5 h6 (vx_runIN (As := As) (rest := rest) ⟨C.1, C.2.1, C.2.2.1, C.2.2.2.1, hts⟩ hM ⟨va_cnB As.length hts (lw_meth q5) rfl rfl rfl (C.2.2.2.2.2.2.2.2.2.1.2.1 _ q1 rfl) (hts _ q4) hd' (V_hR hdd hLL h1 h2), hnm, hts _ q2⟩ ⟨PcV.blind, fun U e1 hW => ⟨rfl, by rw [e1]; exact hR, C.2.2.2.2.2.2.2.2.2.1.moved hW⟩⟩ rfl rfl hL.1 hst (by show 2 * 0 + _ ≤ 8; simpa using hW) hdg ⟨by omega, by omega⟩) (fun v h' hq => by rw [hr0]; exact hq) (fun q h' hq => hq.elim)
end Rules7
