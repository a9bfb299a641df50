/-! FOUNDATION 14: calls through an interface of a method that a superinterface declares -/
section VIFU
variable {p : Program} {l : Launch} {e : Env} {R : Room} {s : State} {m : MethodId} {args : Array Value} {below : List Frame} {meth : Method} {c : Code} {H : Heap} {locs : List Loc} {cells slots : Nat}
theorem vx_callIFU {T : State} (X : Stand p l e R s m args below meth c T locs cells slots) (hexec : p.tables.exec = Jvm.exec) {own C J : String} {index count : Nat} {x y : MethodName}
    (hown : s.vm.findClass own = some m.cls) (hlink : (Cond.methodLink own index x).before args s = true) (hdecl : (Cond.declares ⟨J, x.name, x.desc⟩).before args s = true) (hpubJ : (Cond.publicMethod ⟨J, x.name, x.desc⟩).before args s = true) (hface : (Cond.interfaceMethod x.cls J x.name x.desc).before args s = true) (hxo : x.cls ≠ J)
    (hsel : (Cond.selects C ⟨J, x.name, x.desc⟩ y).before args s = true) (hinst : (Cond.instanceMethod y).before args s = true) (hpub : (Cond.publicMethod y).before args s = true) (hunh : (Cond.unhidden C x.name x.desc).before args s = true)
    (hcast : (Cond.castable C x.cls).before args s = true) (hx : x.cls ≠ "java/lang/invoke/MethodHandle" ∧ x.cls ≠ "java/lang/invoke/VarHandle") (hJ : J ≠ "java/lang/invoke/MethodHandle" ∧ J ≠ "java/lang/invoke/VarHandle")
    {W9 : Nat} {Pre : Pt → Array Value → Prop} {Post : Pt → Array Value → Option Value → Pt → Prop} {PostX : Pt → Array Value → Addr → Pt → Prop} (hK : vx_Back l R p e below s args y 5 W9 Pre Post PostX)
    {b : Addr} {cellB : Cell} {kB : Class} (hcell : T.heap[b]? = some cellB) (hobj : cellB.vm.isStatics = false) (hcls : s.vm.findClass C = some cellB.cls) (hkB : s.vm.classes[cellB.cls]? = some kB)
    {g : JFrame} (hg : g.method = m) (hsize : g.locals.size = c.maxLocals) {argsL rest : List Value} (hlen : ∀ sig, parseMethodDescriptor x.desc = some sig → argsL.length = sig.parameters.length)
    (hstack : g.stack = argsL.reverse ++ .ref b :: rest) (hW : 2 * g.monitorRoom + (rest.map fun v => v.category).sum ≤ W9) (hdg : decode c.code g.pc = .ok (.invokeinterface index count, 5))
    (hpre : ∀ vm₁, s.WarmedH vm₁ → Pre ⟨T.setVm vm₁, locs, cells, slots⟩ (Value.ref b :: argsL).toArray) :
    (∃ (v : Option Value) (vm₁ : Vm) (B : Pt), s.WarmedH vm₁ ∧ Stand p l e R s m args below meth c B.U B.locs B.cells B.slots ∧ Post ⟨T.setVm vm₁, locs, cells, slots⟩ (Value.ref b :: argsL).toArray v B ∧
      ∀ target, Steps p.tables e below (B.U.setTop { g with pc := g.pc + 5, stack := v.toList ++ rest }) target → Steps p.tables e below (T.setTop g) target) ∨
    (∃ (q : Addr) (vm₁ : Vm) (B : Pt), s.WarmedH vm₁ ∧ Stand p l e R s m args below meth c B.U B.locs B.cells B.slots ∧ PostX ⟨T.setVm vm₁, locs, cells, slots⟩ (Value.ref b :: argsL).toArray q B ∧
      Steps p.tables e below (T.setTop g) ((B.U.setTop { g with stack := rest }).pushFrame (.throwing q))) := by
  obtain ⟨r0, r, hn, hrm, hstR, hsigR⟩ := Cond.declares_spec hdecl
  obtain ⟨cL, kL, r1, hcL, hkL, hiL, hfoundL, hn1⟩ := Cond.interfaceMethod_spec hface
  cases hn.symm.trans hn1
  obtain ⟨hnameR, hdescR⟩ := name_of_methodNamed hn hrm
  obtain ⟨mk, methM, hnamed, hmethM, -, habM⟩ := Cond.instanceMethod_spec hinst
  obtain ⟨c2, r2, m2, q1, q2, q3, q4, -⟩ := Cond.selects_spec hsel
  cases hcls.symm.trans q1
  cases (State.methodFound?_of_named hn hJ).symm.trans q2
  cases hnamed.symm.trans q3
  have hselP : selectMethod e.platform s.vm cellB.cls r0 = .method mk := by rw [Launch.admits_selectMethod X.admits]; exact q4
  have hpubM : hasFlag methM.accessFlags Acc.public_ = true := Cond.publicMethod_spec hnamed hmethM hpub
  have hway : ((cellB.cls :: s.vm.superclasses cellB.cls).any fun k => (declaredIn s.vm r.name r.desc k).any fun (_, z) => z.isPrivate || z.isStatic) = false := by
    rw [hnameR, hdescR]; exact Cond.unhidden_spec hcls hunh
  obtain ⟨c3, t3, w1, w2, w3⟩ := Cond.castable_spec hcast
  cases hcls.symm.trans w1
  cases hcL.symm.trans w2
  obtain ⟨vm₁, X₁, hstep₁⟩ := X.invokeinterfaceUp hexec (J := J) hown hlink hface hdecl hpubJ hxo hx (a := b) (cell := cellB) (kcell := kB) hcL hcell
    (fun z h => by rw [h] at hobj; cases hobj) hkB w3 hn hrm hselP hmethM hway hpubM habM (g := g) hg (argsL := argsL) (rest := rest) (hlen _ hsigR) hstack hdg
  rcases hK m meth c ⟨T.setVm vm₁, locs, cells, slots⟩ { g with stack := rest } (.invokeinterface index count) mk (Value.ref b :: argsL).toArray X₁ hg hsize hdg hW (X₁.named hnamed) (hpre vm₁ X₁.warmed) with ⟨v, B, X', hpost, hsteps⟩ | ⟨q, B, X', hpost, hsteps⟩
  · exact Or.inl ⟨v, vm₁, B, X₁.warmed, X', hpost, fun target h => hstep₁ _ fun acts => by rw [doInvoke_state]; exact hsteps.trans h⟩
  · exact Or.inr ⟨q, vm₁, B, X₁.warmed, X', hpost, hstep₁ _ fun acts => by rw [doInvoke_state]; exact hsteps⟩
end VIFU
section Rules14
variable {E : Ev} {M M' : Mt} {d d' b b1 pc idx a ci N : Nat} {C0 J : String} {x : MethodName} {T : u_T} {ls : List (Option Value)} {As st rest : List Value} {h : AH} {Q : Value → AH → Prop} {X : Nat → AH → Prop}
theorem lw_FU {own : String} {idx : Nat} {C : String} {x x' y : MethodName} {b : ByteArray} {L : Nat} {r : Option FieldType} (h6 : Cond.code y b L r ∈ lw_all) : GoodIn lw_all (ws_ y b L r) := lw_meth h6
theorem V_invFU {cnt : Nat} (ok : OkM M' As.length) (okx : OkX x.cls x As.length) (hJ : J ≠ "java/lang/invoke/MethodHandle" ∧ J ≠ "java/lang/invoke/VarHandle") (hdg : decode M.2.1 pc = .ok (.invokeinterface idx cnt, 5)) (q1 : Cond.methodLink M.1.cls idx x ∈ fl1) (q3 : Cond.selects C0 ⟨J, x.name, x.desc⟩ M'.1 ∈ lw_all) (hxo : x.cls ≠ J)
    (f1 : Cond.declares ⟨J, x.name, x.desc⟩ ∈ lw_nt) (f0 : Cond.publicMethod ⟨J, x.name, x.desc⟩ ∈ lw_nt) (f2 : Cond.interfaceMethod x.cls J x.name x.desc ∈ lw_nt) (f3 : Cond.publicMethod M'.1 ∈ lw_nt) (f4 : Cond.unhidden C0 x.name x.desc ∈ lw_nt) (f5 : Cond.castable C0 x.cls ∈ lw_nt) (hh : nocov M pc = true)
    (hst : st = As.reverse ++ .ref a :: rest) (ha : clsE E h a ci) (hci : clA[ci]? = some (C0, T, N)) (hcat : As.all (fun v => v.category == 1) = true) (hW : (rest.map fun v => v.category).sum ≤ 8) (hdd : d' + 1 ≤ d) (hbb : b1 ≤ b)
    (k : V E M' d' b1 0 (entL M'.2.2.1 (.ref a :: As)) [] h (fun v h' => V E M d (b - b1) (pc + 5) ls (rv M' v ++ rest) h' Q X) X) : V E M d b pc ls st h Q X := by
  obtain ⟨q2, q4, q5, hpl, hh', hLL, hn⟩ := ok
  intro p l e R s m args below meth c H locs cells slots mc ms arr C hS hR hL h1 h2 h3 h4 h5 h6
  have hts := C.2.2.2.2.1
  have KEs := C.2.2.2.2.2.2.2.2.2.1
  have hM := V.met (l := l) C.2.2.2.2.2.2.2.2.2.2 hpl hh' (catB hcat) (by simpa using hn) k
  obtain ⟨fs, hP⟩ := clsE.P KEs hR ha
  have hrc := va_recv KEs.1 hP hci (q0 := 0) (fs := fs) rfl
  have hat := (KEs.1.1 ci _ hci).2
  have hrm := V_hR (b1 := b1) hdd hLL h1 h2
  have hws : ∀ w ∈ ws_ M'.1 M'.2.1 M'.2.2.1 M'.2.2.2.1, ∀ (a' : Array Value) (U : State), s.WarmedH U.vm → w.before a' U = true := pay_in hts (lw_meth q5)
  have hK : vx_Back l R p e below s args M'.1 5 8 (PreOf R b1 b1 (PcV E (.ref a :: As) h)) (PostOf (QcV E M' (fun v h' => V E M d (b - b1) (pc + 5) ls (rv M' v ++ rest) h' Q X)) b1 b1 (Bs E)) (vx_Post (XcV E X) b1 b1 (Bs E)) := vx_back (bytes := M'.2.1) (maxL := M'.2.2.1) (ret := M'.2.2.2.1) hM PcV.blind rfl rfl hrm.1 hrm.2 hws List.mem_cons_self (fun a' U hW => word_at hW (Or.inl (by first | rfl | simp [Cond.onTables, Cond.keeps, Cond.steady])) (hts _ q4))
  obtain ⟨cellB, hcB, hoB, hclB⟩ := hrc
  obtain ⟨hfc, kB, hkB, -⟩ := hat
  have e9 : cellB.cls = E.1.1 ci := Option.some.inj (hclB.symm.trans hfc)
  refine V_fin hh C hS hL h1 h2 (b1 := b1) (b2 := b - b1) (n := 5) (rest := rest) (M' := M') (a1 := (Value.ref a :: As).toArray) (by omega) (by omega) h5 h6 ?_ (fun v h' hq => hq)
  intro T hT X0
  rcases vx_callIFU X0 C.1 (J := J) (x := x) (y := M'.1) (C := C0) C.2.2.2.1 (KEs.2.2.2.1 _ q1 rfl args) (va_any rfl (KEs.2.2.2.2.2.2.1.2.2.2.2 _ _ _ _ hxo ⟨okx.1, okx.2.1⟩ f2 f1).1) (va_Nw.use rfl (KEs.2.1 _ f0 rfl)) (va_any rfl (KEs.2.2.2.2.2.2.1.2.2.2.2 _ _ _ _ hxo ⟨okx.1, okx.2.1⟩ f2 f1).2) hxo (hts _ q3) (hts _ q2) (va_Nw.use rfl (KEs.2.1 _ f3 rfl)) (va_Nw.use rfl (KEs.2.1 _ f4 rfl)) (va_Nw.use rfl (KEs.2.1 _ f5 rfl)) ⟨okx.1, okx.2.1⟩ hJ hK (by rw [hT]; exact hcB) hoB hclB (by rw [e9]; exact hkB) (g := F0 m pc arr st) rfl (by rw [C.2.2.1]; exact hL.1) (argsL := As) (rest := rest) (fun sig hs => by
      have h9 := okx.2.2
      rw [hs] at h9
      exact (Option.some.inj h9).symm) hst (by show 2 * 0 + _ ≤ 8; simpa using hW) (by rw [C.2.1]; exact hdg)
    (fun vm₁ hW₁ => ⟨by show cells + b1 ≤ R.cells; omega, by show slots + b1 ≤ R.slots; omega, rfl, by show Rel E h T.heap; rw [hT]; exact hR, KEs.moved hW₁⟩) with ⟨v, vm₁, ⟨U', l2, c2, s2⟩, hW₁, X', ⟨g', mk, t, L, e1, e2, hq, h1, hL, h2, h3⟩, st⟩ | ⟨q, vm₁, ⟨U', l2, c2, s2⟩, hW₁, X', ⟨g', mk, t, L, E9, ce, e1, e2, hq, hce, hcv, hcl, h1, hL, h2, h3⟩, st⟩
  · dsimp only [Pt.U, Pt.locs, Pt.cells, Pt.slots] at X' e1 e2 h1 h2 h3 st
    subst h1; subst h2; subst h3
    exact Or.inl ⟨v, (T.setVm vm₁).calling g' mk (Value.ref a :: As).toArray, t, U', L, hT, X', hL, e1, e2, hq, st⟩
  · dsimp only [Pt.U, Pt.locs, Pt.cells, Pt.slots] at X' e1 e2 h1 h2 h3 st hcl
    subst h1; subst h2; subst h3
    exact Or.inr ⟨q, (T.setVm vm₁).calling g' mk (Value.ref a :: As).toArray, t, U', L, E9, ce, hT, X', hL, e1, e2, hq, hce, hcv, vx_cls hW₁ hcl, st⟩
end Rules14
