/-! FOUNDATION 2: the judgement V, and calls -/
/-- a method: its name, code, number of locals, answer, handlers -/
abbrev Mt : Type := MethodName × ByteArray × Nat × Option FieldType × List (Nat × Nat × Nat × Nat)
def isNw : Cond → Bool
  | .castable .. => true
  | .declares .. => true
  | .publicMethod .. => true
  | .unhidden .. => true
  | .methodLinkNest .. => true
  | .fieldLinkNest .. => true
  | _ => false
abbrev fl1 : List Cond := flatC (Jvm.Cond.and given_1 narrow_1)
abbrev lw_nt : List Cond := lw_tbl ++ fl1
def KW (s : State) : Prop := ∀ w ∈ lw_nt, isNw w = true → va_Nw w s
theorem KW.moved {s U : State} (hW : s.WarmedH U.vm) (h : KW s) : KW U := by
  intro w hw hn
  have h1 := h w hw hn
  cases w <;> first | (cases hn; done) | exact va_Nw.warmC hW h1 | exact va_Nw.warmD hW h1 | exact va_Nw.warmM hW h1 | exact va_Nw.warmF hW h1 | exact va_tabs rfl (rfl : (s.setVm U.vm).vm = U.vm) (by rw [Cond.publicMethod_setVm hW.alike]; exact h1) | exact va_tabs rfl (rfl : (s.setVm U.vm).vm = U.vm) (by rw [Cond.unhidden_setVm hW.alike]; exact h1)
def KF (s : State) : Prop := ∀ (C : String) (x y : MethodName), (x.cls ≠ "java/lang/invoke/MethodHandle" ∧ x.cls ≠ "java/lang/invoke/VarHandle") → Cond.declares x ∈ lw_nt → Cond.interfaceMethod x.cls x.cls x.name x.desc ∈ lw_nt → Cond.publicMethod y ∈ lw_nt → Cond.unhidden C x.name x.desc ∈ lw_nt → Cond.castable C x.cls ∈ lw_nt → va_Fw C x y s
theorem KF.moved {s U : State} (hW : s.WarmedH U.vm) (h : KF s) : KF U := fun C x y hx h1 h2 h3 h4 h5 => va_Fw.moved hx hW.alike (h C x y hx h1 h2 h3 h4 h5)
def KG (s : State) : Prop := ∀ w ∈ fl1, goodWord w = true → ∀ a : Array Value, w.before a s = true
theorem KG.moved {s U : State} (hW : s.WarmedH U.vm) (h : KG s) : KG U := fun w hw hg a => word_at hW (good_of_word hg) (h w hw hg #[])
def KN (s : State) : Prop := ∀ C T : String, Cond.not (.castable C T) ∈ fl1 → va_Nc C T s
theorem KN.moved {s U : State} (hW : s.WarmedH U.vm) (h : KN s) : KN U := fun C T hw => (h C T hw).moved hW.alike
/-- the statics that are read -/
def ksl (E : Ev) : List (String × String × String × Value) := [("java/lang/Integer$IntegerCache", "cache", "[Ljava/lang/Integer;", .ref (E.2.2.2 0)), ("java/lang/Integer$IntegerCache", "high", "I", vI 127), ("java/util/ArrayList", "DEFAULTCAPACITY_EMPTY_ELEMENTDATA", "[Ljava/lang/Object;", .ref (E.2.2.2 1)),
  ("java/util/ArrayList", "EMPTY_ELEMENTDATA", "[Ljava/lang/Object;", .ref (E.2.2.2 2)), ("java/util/TreeSet", "PRESENT", "Ljava/lang/Object;", .ref (E.2.2.2 3)), ("java/util/TreeMap", "UNBOUNDED", "Ljava/lang/Object;", .ref (E.2.2.2 4)), ("java/lang/String", "COMPACT_STRINGS", "Z", vI 1)]
def KS (E : Ev) (s : State) : Prop := ∀ x ∈ ksl E, va_Z x.1 x.2.1 x.2.2.1 x.2.2.2 (Bs E) s E.2.2.1
theorem KS.moved {E : Ev} {s U : State} (hW : s.WarmedH U.vm) (h : KS E s) : KS E U := fun x hx => (h x hx).moved hW.alike
/-- class objects that are asked for -/
def kml (E : Ev) : List (String × Nat) := [("[Ljava/lang/Object;", E.2.2.2 10), ("java/util/ArrayList", E.2.2.2 11), ("java/util/TreeSet", E.2.2.2 12)]
/-- an interface's method that a superinterface declares: told of other states too -/
theorem if_moved {ref J nm ds : String} (hxo : ref ≠ J) (hx : ref ≠ "java/lang/invoke/MethodHandle" ∧ ref ≠ "java/lang/invoke/VarHandle") {u U : State} (hvm : u.vm.Alike U.vm) (hd : (Cond.declares ⟨J, nm, ds⟩).before #[] u = true) (h : (Cond.interfaceMethod ref J nm ds).before #[] u = true) : (Cond.interfaceMethod ref J nm ds).before #[] U = true := by
  have tr : ∀ {c : Cond}, c.onTables = true → c.before #[] (u.setVm U.vm) = true → c.before #[] U = true := by
    intro c hc h
    have e := Cond.onTables_vm (A := #[]) (A' := #[]) (U := u) (U' := U) U.vm c hc
    have hU : U.setVm U.vm = U := rfl
    rw [hU] at e
    rw [← e]
    exact h
  refine tr rfl ?_
  obtain ⟨cL, kL, r0, hcL, hkL, hiL, hfoundL, hn⟩ := Cond.interfaceMethod_spec h
  obtain ⟨r0', r', hn', hrm', -, -⟩ := Cond.declares_spec hd
  cases hn.symm.trans hn'
  obtain ⟨ok, hok, hokname⟩ := className_of_methodNamed hn
  obtain ⟨kL', hkL', hnameL⟩ := Vm.findClass_spec hcL
  cases hkL.symm.trans hkL'
  have hpolyL : ∀ y, signaturePolymorphic kL y = false := fun y => by simp [signaturePolymorphic, hnameL, hx.1, hx.2]
  have hnone : kL.findMethod nm ds = none := by
    cases hj : kL.findMethod nm ds with
    | none => rfl
    | some j =>
      exfalso
      have hsome : (kL.methods[j]?).isSome := by
        obtain ⟨hlt, -, -⟩ := Array.findIdx?_eq_some_iff_getElem.mp hj
        simp [hlt]
      have h2 := State.methodFound?_declared hcL hkL hpolyL hj hsome
      rw [hfoundL] at h2
      have e1 : r0 = ⟨cL, j⟩ := Option.some.inj h2
      have e2 : r0.cls = cL := by rw [e1]
      rw [e2] at hok
      cases hkL.symm.trans hok
      exact hxo (hnameL.symm.trans hokname)
  have hff := State.faceFind_of_found hcL hkL hiL hpolyL hnone hfoundL
  obtain ⟨kU, hkU, hbU⟩ := hvm.2.2 _ _ hkL
  obtain ⟨okU, hokU, -⟩ := hvm.2.2 _ _ hok
  have hf : (u.setVm U.vm).methodFound? ref nm ds = u.methodFound? ref nm ds := by
    rw [hfoundL]
    exact State.methodFound?_faceFind (s := u.setVm U.vm) (by show U.vm.findClass ref = some cL; rw [hvm.findClass]; exact hcL) hkU (by rw [hbU]; exact hiL) (fun y => by rw [hbU]; exact hpolyL y) (by rw [hbU]; exact hnone) (by show U.vm.faceFind cL nm ds = some r0; rw [hvm.faceFind]; exact hff) hokU
  have e : (Cond.interfaceMethod ref J nm ds).before #[] (u.setVm U.vm) = (Cond.interfaceMethod ref J nm ds).before #[] u := by
    simp only [Cond.before, Cond.holds, Cond.value, State.vm_setVm, hvm.findClass, hf, State.methodNamed?_setVm hvm, arm_isInterface_setVm hvm]
  rw [e]
  exact h
/-- interfaces' methods that superinterfaces declare -/
def KI (s : State) : Prop := ∀ ref J nm ds : String, ref ≠ J → (ref ≠ "java/lang/invoke/MethodHandle" ∧ ref ≠ "java/lang/invoke/VarHandle") → Cond.interfaceMethod ref J nm ds ∈ lw_nt → Cond.declares ⟨J, nm, ds⟩ ∈ lw_nt → (Cond.declares ⟨J, nm, ds⟩).before #[] s = true ∧ (Cond.interfaceMethod ref J nm ds).before #[] s = true
theorem KI.moved {s U : State} (hvm : s.vm.Alike U.vm) (h : KI s) : KI U := fun ref J nm ds h1 h2 h3 h4 => ⟨va_tabs rfl (rfl : (s.setVm U.vm).vm = U.vm) (by rw [Cond.declares_setVm hvm]; exact (h ref J nm ds h1 h2 h3 h4).1), if_moved h1 h2 hvm (h ref J nm ds h1 h2 h3 h4).1 (h ref J nm ds h1 h2 h3 h4).2⟩
/-- the cell of a cached Integer -/
def iA (E : Ev) (z : Int) : Nat := E.2.2.2 (1000 + (z + 128).toNat)
/-- the text of the signs -/
def sgF : Int → Int := fun i => [91, 93, 58, 64, 61, 46, 38, 124, 94, 43, 45, 33, 40, 41, 59].getD i.toNat 0
/-- constants: cells that stand at the law's start and are never written -/
def cst (E : Ev) (a : Nat) (c : Po) : Prop := (∃ z : Int, -128 ≤ z ∧ z ≤ 127 ∧ a = iA E z ∧ c = .inr (32, [vI z])) ∨ (a = E.2.2.2 0 ∧ c = .inl (12, 256, .inr (fun i => some (iA E (i - 128))))) ∨ ((a = E.2.2.2 1 ∨ a = E.2.2.2 2) ∧ c = .inl (13, 0, .inr (fun _ => none))) ∨ (a = E.2.2.2 6 ∧ c = .inl (11, 15, .inl sgF))
def KC (E : Ev) : Prop := ∀ (a : Nat) (c : Po), cst E a c → va_at E.1 clA (a, cvP E c) E.2.2.1
def KM (E : Ev) (s : State) : Prop := (∀ x ∈ kml E, va_Mi x.1 x.2 s) ∧ va_Dc s ∧ E.2.2.2 11 ≠ E.2.2.2 12 ∧ KC E ∧ KI s
theorem KM.moved {E : Ev} {s U : State} (hvm : s.vm.Alike U.vm) (h : KM E s) : KM E U := ⟨fun x hx => (h.1 x hx).moved hvm, h.2.1.moved hvm, h.2.2.1, h.2.2.2.1, h.2.2.2.2.moved hvm⟩
/-- classes of arrays of objects -/
def KO (s : State) : Prop := va_AO "java/lang/Object" s ∧ va_AO "SignalWaves$Wave" s
theorem KO.moved {s U : State} (hvm : s.vm.Alike U.vm) (h : KO s) : KO U := ⟨h.1.moved hvm, h.2.moved hvm⟩
def KE (E : Ev) (s : State) : Prop := va_K E.1 clA (tysA E) s ∧ KW s ∧ KF s ∧ KG s ∧ KN s ∧ KS E s ∧ KM E s ∧ KO s
theorem KE.moved {E : Ev} {s U : State} (hW : s.WarmedH U.vm) (h : KE E s) : KE E U := ⟨h.1.moved hW.alike, h.2.1.moved hW, h.2.2.1.moved hW, h.2.2.2.1.moved hW, h.2.2.2.2.1.moved hW, h.2.2.2.2.2.1.moved hW, h.2.2.2.2.2.2.1.moved hW.alike, h.2.2.2.2.2.2.2.moved hW.alike⟩
/-- facts of the tables don't see the frames -/
theorem KE.same {E : Ev} {s U : State} (hv : s.vm = U.vm) (h : KE E s) : KE E U := by
  have al : s.vm.Alike U.vm := by rw [hv]; exact State.WarmedH.alike (State.WarmedH.refl U)
  refine ⟨h.1.moved al, fun w hw hn => ?_, fun C x y hx h1 h2 h3 h4 h5 => va_Fw.moved hx al (h.2.2.1 C x y hx h1 h2 h3 h4 h5), fun w hw hg a => ?_, fun C T hw => (h.2.2.2.2.1 C T hw).moved al, fun x hx => (h.2.2.2.2.2.1 x hx).moved al, h.2.2.2.2.2.2.1.moved al, h.2.2.2.2.2.2.2.moved al⟩
  · have h1 := h.2.1 w hw hn
    cases w <;> first | (cases hn; done) | exact va_Nw.same rfl hv h1
  · have h1 := h.2.2.2.1 w hw hg #[]
    have hW : s.WarmedH U.vm := by rw [← hv]; exact State.WarmedH.refl s
    exact word_at hW (good_of_word hg) h1
def lvR (arr : Array Slot) (n : Nat) (ls : List (Option Value)) : Prop := arr.size = n ∧ ls.length = n ∧ lv_wf arr ∧ ∀ (i : Nat) (v : Value), ls[i]? = some (some v) → arr[i]? = some (.val v) ∧ v.category = 1
def lvP (ls : List (Option Value)) : List (Nat × Value) := ls.zipIdx.filterMap (fun x => x.1.map (fun v => (x.2, v)))
theorem lvP_mem {ls : List (Option Value)} {q : Nat × Value} : q ∈ lvP ls ↔ ls[q.1]? = some (some q.2) := by
  unfold lvP
  rw [List.mem_filterMap]
  constructor
  · rintro ⟨⟨o, i⟩, h1, h2⟩
    have h3 := List.mem_zipIdx_iff_getElem?.mp h1
    cases o with
    | none => cases h2
    | some v =>
      cases h2
      exact h3
  · intro h
    exact ⟨(some q.2, q.1), List.mem_zipIdx_iff_getElem?.mpr h, rfl⟩
theorem lvR.has {arr : Array Slot} {n : Nat} {ls : List (Option Value)} (h : lvR arr n ls) : lv_has arr n (lvP ls) := ⟨h.1, h.2.2.1, fun q hq => (h.2.2.2 q.1 q.2 (lvP_mem.mp hq)).1⟩
theorem lvR.get {arr : Array Slot} {n : Nat} {ls : List (Option Value)} (h : lvR arr n ls) {i : Nat} {v : Value} (hi : ls[i]? = some (some v)) : arr[i]? = some (.val v) := (h.2.2.2 i v hi).1
theorem lvR.set {arr arr' : Array Slot} {n : Nat} {ls : List (Option Value)} (h : lvR arr n ls) {i : Nat} {x : Value} (hx : x.category = 1)
    (h' : lv_has arr' n ((i, x) :: (lvP ls).filter (fun q => !(q.1 == i) && !(q.1 + 1 == i && q.2.category == 2)))) : lvR arr' n (ls.set i (some x)) := by
  refine ⟨h'.1, by rw [List.length_set]; exact h.2.1, h'.2.1, fun j v hj => ?_⟩
  rw [List.getElem?_set] at hj
  split at hj
  · rename_i hij
    subst hij
    split at hj
    · cases hj
      exact ⟨h'.2.2 (i, x) List.mem_cons_self, hx⟩
    · cases hj
  · rename_i hij
    obtain ⟨h1, h2⟩ := h.2.2.2 j v hj
    refine ⟨h'.2.2 (j, v) (List.mem_cons_of_mem _ (List.mem_filter.mpr ⟨lvP_mem.mpr hj, ?_⟩)), h2⟩
    have : ¬ j = i := fun e => hij e.symm
    simp [this, h2]
def Cx (E : Ev) (M : Mt) (p : Program) (l : Launch) (s : State) (m : MethodId) (args : Array Value) (meth : Method) (c : Code) : Prop :=
  p.tables.exec = Jvm.exec ∧ c.code = M.2.1 ∧ c.maxLocals = M.2.2.1 ∧ s.vm.findClass M.1.cls = some m.cls ∧ (∀ w ∈ lw_all, w.before args s = true) ∧ meth.sig.returnType = M.2.2.2.1 ∧ meth.locks = false ∧ meth.name = M.1.name ∧ c.exceptionTable.toList = tableOf M.2.2.2.2 ∧ KE E s ∧ l.stackTraces = false
def QcV (E : Ev) (M : Mt) (Q : Value → AH → Prop) : Array Value → State → Outcome → State → Prop := fun _ _ o t => ∃ (v : Value) (h' : AH), o = .returned (match M.2.2.2.1 with | none => none | some _ => some v) ∧ Q v h' ∧ Rel E h' t.heap
def XcV (E : Ev) (X : Nat → AH → Prop) : String → Nat → State → State → Prop := fun cl q _ t => cl = RX9 ∧ ∃ h' : AH, X q h' ∧ Rel E h' t.heap
/-- from here, with these locals, this stack, this heap, and b cells and slots at most: the method M comes to its end with Q, or throws with X -/
def V (E : Ev) (M : Mt) (d b pc : Nat) (ls : List (Option Value)) (st : List Value) (h : AH) (Q : Value → AH → Prop) (X : Nat → AH → Prop) : Prop :=
  ∀ (p : Program) (l : Launch) (e : Env) (R : Room) (s : State) (m : MethodId) (args : Array Value) (below : List Frame) (meth : Method) (c : Code) (H : Heap) (locs : List Loc) (cells slots mc ms : Nat) (arr : Array Slot),
    Cx E M p l s m args meth c → va_S (Bs E) E.2.2.1 H locs → Rel E h H → lvR arr M.2.2.1 ls → d ≤ R.frames → 100 * d ≤ R.locals → cells + b ≤ mc → slots + b ≤ ms → mc ≤ R.cells → ms ≤ R.slots →
    W p l e R s m args below meth c H locs cells slots (vx_MQ below (QcV E M Q) (XcV E X) args s mc ms (Bs E)) (F0 m pc arr st)
theorem V.mono {E : Ev} {M : Mt} {d d' b b' pc : Nat} {ls : List (Option Value)} {st : List Value} {h : AH} {Q : Value → AH → Prop} {X : Nat → AH → Prop} (hd : d ≤ d') (hb : b ≤ b') (k : V E M d b pc ls st h Q X) : V E M d' b' pc ls st h Q X := by
  intro p l e R s m args below meth c H locs cells slots mc ms arr C hS hR hl h1 h2 h3 h4 h5 h6
  exact k p l e R s m args below meth c H locs cells slots mc ms arr C hS hR hl (by omega) (by omega) (by omega) (by omega) h5 h6
/-- another locals list that knows less -/
theorem V.less {E : Ev} {M : Mt} {d b pc : Nat} {ls ls' : List (Option Value)} {st : List Value} {h : AH} {Q : Value → AH → Prop} {X : Nat → AH → Prop} (hl : ls.length = ls'.length) (hs : ∀ (i : Nat) (v : Value), ls'[i]? = some (some v) → ls[i]? = some (some v)) (k : V E M d b pc ls' st h Q X) : V E M d b pc ls st h Q X := by
  intro p l e R s m args below meth c H locs cells slots mc ms arr C hS hR hL h1 h2 h3 h4 h5 h6
  exact k p l e R s m args below meth c H locs cells slots mc ms arr C hS hR ⟨hL.1, hl.symm.trans hL.2.1, hL.2.2.1, fun i v hi => hL.2.2.2 i v (hs i v hi)⟩ h1 h2 h3 h4 h5 h6
def entL (n : Nat) (vs : List Value) : List (Option Value) := vs.map some ++ List.replicate (n - vs.length) none
theorem lg_sl1 {vs : List Value} (hc : ∀ v ∈ vs, v.category = 1) : lg_sl vs = vs.map Slot.val := by
  unfold lg_sl
  induction vs with
  | nil => rfl
  | cons v vs ih =>
    rw [List.flatMap_cons, ih (fun w hw => hc w (List.mem_cons_of_mem _ hw)), if_neg (by rw [hc v List.mem_cons_self]; decide)]
    rfl
theorem lvR.entry {vs : List Value} {n : Nat} (hc : ∀ v ∈ vs, v.category = 1) (hn : vs.length ≤ n) : lvR ((lg_sl vs ++ List.replicate (n - (lg_sl vs).length) Slot.unset).toArray) n (entL n vs) := by
  have h0 := lg_sl1 hc
  have h1 : (lg_sl vs).length = vs.length := by rw [h0, List.length_map]
  obtain ⟨h2, h3, -⟩ := lv_entry vs (n := n) (by rw [h1]; exact hn)
  refine ⟨h2, by unfold entL; simp; omega, h3, fun i v hi => ?_⟩
  unfold entL at hi
  by_cases hl : i < vs.length
  · rw [List.getElem?_append_left (by simpa using hl), List.getElem?_map] at hi
    cases hv : vs[i]? with
    | none => rw [hv] at hi; cases hi
    | some w =>
      rw [hv] at hi
      cases hi
      refine ⟨?_, hc v (List.mem_of_getElem? hv)⟩
      rw [h0, List.getElem?_toArray, List.getElem?_append_left (by simpa using hl), List.getElem?_map, hv]
      rfl
  · rw [List.getElem?_append_right (by simpa using Nat.le_of_not_lt hl), List.getElem?_replicate] at hi
    split at hi <;> cases hi
/-- the room of a contract -/
def rmV (d b : Nat) : Room := { frames := d, cells := b, slots := b, locals := 100 * d }
def PcV (E : Ev) (As : List Value) (h : AH) : Array Value → State → Prop := fun v U => v = As.toArray ∧ Rel E h U.heap ∧ KE E U
theorem PcV.blind {E : Ev} {As : List Value} {h : AH} : FrameBlind (PcV E As h) := fun a U g mk hP => ⟨hP.1, hP.2.1, KE.same (s := U) (U := U.calling g mk a) rfl hP.2.2⟩
/-- a method's contract out of its walk -/
theorem V.met {E : Ev} {M : Mt} {d b : Nat} {As : List Value} {h : AH} {Q : Value → AH → Prop} {X : Nat → AH → Prop} {l : Launch} (hl : l.stackTraces = false) (hpl : plainName M.1.cls = true) (hh : M.2.2.2.2 = []) (hc : ∀ v ∈ As, v.category = 1) (hn : As.length ≤ M.2.2.1) (k : V E M d b 0 (entL M.2.2.1 As) [] h Q X) :
    vx_Met l M.1 (ws_ M.1 M.2.1 M.2.2.1 M.2.2.2.1) (rmV d b) (PcV E As h) (QcV E M Q) (XcV E X) b b (Bs E) := by
  refine vx_ofW (cc := M.2.1) (maxL := M.2.2.1) (ret := M.2.2.2.1) hpl rfl ?_
  intro p e s m args below meth c s₁ B hml ht hP
  obtain ⟨rfl, hR, hK⟩ := hP
  have hts := atoms_spec (ws := ws_ M.1 M.2.1 M.2.2.1 M.2.2.2.1) B.pre
  have hts : ∀ w ∈ lw_all, w.before _ s = true := fun w h => hts w (List.mem_cons_of_mem _ h)
  rw [lg_entry_eq]
  refine k p l e _ s m _ below meth c s.heap [] 0 0 b b _ ⟨B.exec, B.bytes, hml, findClass_of_methodNamed B.named, hts, B.returns, B.notSynchronized, (name_of_methodNamed B.named B.method).1, ?_, hK, hl⟩ ⟨hR.1.1, fun q h1 h2 => hR.1.2 q h1, fun _ h => by cases h⟩ hR (lvR.entry hc hn) (Nat.le_refl _) (Nat.le_refl _) (by omega) (by omega) (Nat.le_refl _) (Nat.le_refl _)
  rw [hh]
  cases he : c.exceptionTable.toList with
  | nil => rfl
  | cons x xs => exact absurd (ht x (by rw [he]; exact List.mem_cons_self)) (fun h => h)
/-- no handler of the method stands over a place -/
abbrev nocov (M : Mt) (pc : Nat) : Bool := (tableOf M.2.2.2.2).all (fun x => !covers x pc)
/-- behind a run of a callee: the caller goes on, or throws on -/
theorem V_fin {E : Ev} {M M' : Mt} {d b1 b2 pc : Nat} {ls : List (Option Value)} {rest : List Value} {Q Q1 : Value → AH → Prop} {X : Nat → AH → Prop} {n : Nat}
    {p : Program} {l : Launch} {e : Env} {R : Room} {s : State} {m : MethodId} {args a1 : Array Value} {below : List Frame} {meth : Method} {c : Code} {H : Heap} {locs : List Loc} {cells slots mc ms : Nat} {arr : Array Slot} {st : List Value}
    (hh : nocov M pc = true) (C : Cx E M p l s m args meth c) (hS : va_S (Bs E) E.2.2.1 H locs) (hL : lvR arr M.2.2.1 ls) (h1 : d ≤ R.frames) (h2 : 100 * d ≤ R.locals) (h3 : cells + (b1 + b2) ≤ mc) (h4 : slots + (b1 + b2) ≤ ms) (h5 : mc ≤ R.cells) (h6 : ms ≤ R.slots)
    (hr : ∀ T : State, T.heap = H → Stand p l e R s m args below meth c T locs cells slots →
    (∃ (v : Option Value) (st₀ t T' : State) (L : List Loc), st₀.heap = H ∧ Stand p l e R s m args below meth c T' (locs ++ L) (cells + b1) (slots + b1) ∧ (∀ q ∈ L, Bs E q.base) ∧ T'.heap = t.heap ∧ T'.vm = t.vm ∧ QcV E M' Q1 a1 st₀ (.returned v) t ∧
      Goes p e below T (F0 m pc arr st) T' { (F0 m pc arr st) with pc := (F0 m pc arr st).pc + n, stack := v.toList ++ rest }) ∨
    (∃ (q : Addr) (st₀ t T' : State) (L : List Loc) (E1 : String) (ce : Cell), st₀.heap = H ∧ Stand p l e R s m args below meth c T' (locs ++ L) (cells + b1) (slots + b1) ∧ (∀ z ∈ L, Bs E z.base) ∧ T'.heap = t.heap ∧ T'.vm = t.vm ∧ XcV E X E1 q st₀ t ∧ t.heap[q]? = some ce ∧ ce.vm = .none ∧ s.vm.findClass E1 = some ce.cls ∧
      Steps p.tables e below (T.setTop (F0 m pc arr st)) ((T'.setTop { (F0 m pc arr st) with stack := rest }).pushFrame (.throwing q))))
    (k : ∀ (v : Value) (h' : AH), Q1 v h' → V E M d b2 (pc + n) ls ((match M'.2.2.2.1 with | none => none | some _ => some v).toList ++ rest) h' Q X) :
    W p l e R s m args below meth c H locs cells slots (vx_MQ below (QcV E M Q) (XcV E X) args s mc ms (Bs E)) (F0 m pc arr st) := by
  intro T hT X0
  rcases hr T hT X0 with ⟨v, st₀, t, T', L, e0, X', hLL, e1, e2, ⟨w, h', ew, hq, hR'⟩, st1⟩ | ⟨q, st₀, t, T', L, E1, ce, e0, X', hLL, e1, e2, hx, hce, hcv, hcl, st1⟩
  · cases ew
    have hR2 : Rel E h' T'.heap := by rw [e1]; exact hR'
    have hS2 : va_S (Bs E) E.2.2.1 T'.heap (locs ++ L) := ⟨hR2.1.1, fun q g1 g2 => hR2.1.2 q g1, fun q hq => by
      rcases List.mem_append.mp hq with g | g
      · exact hS.2.2 q g
      · exact hLL q g⟩
    obtain ⟨t9, a1, a2⟩ := k w h' hq p l e R s m args below meth c T'.heap (locs ++ L) (cells + b1) (slots + b1) mc ms arr C hS2 hR2 hL h1 h2 (by omega) (by omega) h5 h6 T' rfl X'
    exact ⟨t9, st1 t9 a1, a2⟩
  · have hxx : XcV E X E1 q st₀ t := hx
    obtain ⟨hcl9, h', hX, hR'⟩ := hx
    have hout : ∀ x ∈ c.exceptionTable.toList, covers x pc = false := by
      intro x hx
      rw [C.2.2.2.2.2.2.2.2.1] at hx
      have := List.all_eq_true.mp hh x hx
      cases hc : covers x pc with
      | false => rfl
      | true => rw [hc] at this; cases this
    have k2 : vx_W p l e R s m args below meth c T'.heap (locs ++ L) (cells + b1) (slots + b1) (vx_MQ below (QcV E M Q) (XcV E X) args s mc ms (Bs E)) (F0 m pc arr rest) q :=
      vx_out hout C.2.2.2.2.2.2.1 (by rw [e1]; exact hce) hcv hcl (fun t2 ht2 _ => ⟨hcl9, h', hX, by rw [ht2, e1]; exact hR'⟩) (fun z hz => by
        rcases List.mem_append.mp hz with g | g
        · exact hS.2.2 z g
        · exact hLL z g) (by omega) (by omega)
    obtain ⟨t9, a1, a2⟩ := k2 T' rfl X'
    exact ⟨t9, st1.trans a1, a2⟩
/-- what a callee's own words say: an instance method called by its own class's name, of n arguments -/
def OkV (M : Mt) (n : Nat) : Prop := Cond.instanceMethod M.1 ∈ lw_all ∧ Cond.selects M.1.cls M.1 M.1 ∈ lw_all ∧ Cond.initialized M.1.cls ∈ lw_all ∧ Cond.code M.1 M.2.1 M.2.2.1 M.2.2.2.1 ∈ lw_all ∧
  (M.1.cls = M.1.cls ∧ M.1.cls ≠ "java/lang/invoke/MethodHandle" ∧ M.1.cls ≠ "java/lang/invoke/VarHandle" ∧ (parseMethodDescriptor M.1.desc).map (fun d => d.parameters.length) = some n) ∧ plainName M.1.cls = true ∧ M.2.2.2.2 = [] ∧ M.2.2.1 ≤ 81 ∧ n + 1 ≤ M.2.2.1
def OkS (M : Mt) (n : Nat) : Prop := Cond.static M.1 ∈ lw_all ∧ Cond.initialized M.1.cls ∈ lw_all ∧ Cond.code M.1 M.2.1 M.2.2.1 M.2.2.2.1 ∈ lw_all ∧
  (M.1.cls ≠ "java/lang/invoke/MethodHandle" ∧ M.1.cls ≠ "java/lang/invoke/VarHandle" ∧ (parseMethodDescriptor M.1.desc).map (fun d => d.parameters.length) = some n) ∧ plainName M.1.cls = true ∧ M.2.2.2.2 = [] ∧ M.2.2.1 ≤ 81 ∧ n ≤ M.2.2.1
def OkI (M : Mt) (n : Nat) : Prop := Cond.instanceMethod M.1 ∈ lw_all ∧ Cond.initialized M.1.cls ∈ lw_all ∧ Cond.code M.1 M.2.1 M.2.2.1 none ∈ lw_all ∧ M.2.2.2.1 = none ∧ M.1.name = "<init>" ∧
  (M.1.cls ≠ "java/lang/invoke/MethodHandle" ∧ M.1.cls ≠ "java/lang/invoke/VarHandle" ∧ (parseMethodDescriptor M.1.desc).map (fun d => d.parameters.length) = some n) ∧ plainName M.1.cls = true ∧ M.2.2.2.2 = [] ∧ M.2.2.1 ≤ 81 ∧ n + 1 ≤ M.2.2.1
theorem catA {As : List Value} (h : As.all (fun v => v.category == 1) = true) : ∀ v ∈ As, v.category = 1 := fun v hv => by simpa using List.all_eq_true.mp h v hv
theorem catB {As : List Value} {a : Nat} (h : As.all (fun v => v.category == 1) = true) : ∀ v ∈ Value.ref a :: As, v.category = 1 := List.forall_mem_cons.mpr ⟨rfl, catA h⟩
/-- what the words of a call want of the room -/
theorem V_hR {M' : Mt} {d d' b1 : Nat} (hd : d' + 1 ≤ d) (hL : M'.2.2.1 ≤ 81) {R : Room} (h1 : d ≤ R.frames) (h2 : 100 * d ≤ R.locals) : (rmV d' b1).frames + 1 ≤ R.frames ∧ 8 + (M'.2.2.1 + 11) + (rmV d' b1).locals ≤ R.locals := by
  constructor
  · show d' + 1 ≤ R.frames; omega
  · show 8 + (M'.2.2.1 + 11) + 100 * d' ≤ R.locals; omega
abbrev rv (M : Mt) (v : Value) : List Value := (match M.2.2.2.1 with | none => none | some _ => some v : Option Value).toList
section Calls1
variable {E : Ev} {M M' : Mt} {d d' b b1 pc idx a ci N : Nat} {C own host : String} {T : u_T} {ls : List (Option Value)} {As st rest : List Value} {fs : List Value} {h : AH} {Q : Value → AH → Prop} {X : Nat → AH → Prop}
/-- o.m(..), m the receiver's own class's -/
theorem V_invV (ok : OkV M' As.length) (hdg : decode M.2.1 pc = .ok (.invokevirtual idx, 3)) (q1 : Cond.methodLink M.1.cls idx M'.1 ∈ lw_all) (hh : nocov M pc = true)
    (hst : st = As.reverse ++ .ref a :: rest) (ha : h a = some (oO ci fs)) (hci : clA[ci]? = some (M'.1.cls, T, N)) (hcat : As.all (fun v => v.category == 1) = true) (hW : (rest.map fun v => v.category).sum ≤ 8) (hdd : d' + 1 ≤ d) (hbb : b1 ≤ b)
    (k : V E M' d' b1 0 (entL M'.2.2.1 (.ref a :: As)) [] h (fun v h' => V E M d (b - b1) (pc + 3) ls (rv M' v ++ rest) h' Q X) X) : V E M d b pc ls st h Q X := by
  obtain ⟨q2, q3, q4, q5, hd, hpl, hh', hLL, hn⟩ := ok
  intro p l e R s m args below meth c H locs cells slots mc ms arr C hS hR hL h1 h2 h3 h4 h5 h6
  have hts := C.2.2.2.2.1
  have hM := V.met (l := l) C.2.2.2.2.2.2.2.2.2.2 hpl hh' (catB hcat) (by simpa using hn) k
  have hrc := va_recv C.2.2.2.2.2.2.2.2.2.1.1 (hR.one ha) hci (q0 := 0) (fs := fs) rfl
  exact V_fin hh C hS hL h1 h2 (b1 := b1) (b2 := b - b1) (by omega) (by omega) h5 h6 (vx_runV (As := As) (rest := rest) ⟨C.1, C.2.1, C.2.2.1, C.2.2.2.1, hts⟩ hM (cwV As.length hts (lw_V q1 q2 q3 q4 q5) rfl rfl rfl hd (V_hR hdd hLL h1 h2)) ⟨PcV.blind, hrc, fun U e1 hW => ⟨rfl, by rw [e1]; exact hR, C.2.2.2.2.2.2.2.2.2.1.moved hW⟩⟩ rfl rfl hL.1 hst (by show 2 * 0 + _ ≤ 8; simpa using hW) hdg ⟨by omega, by omega⟩) (fun v h' hq => hq)
/-- C.m(..) -/
theorem V_invS (ok : OkS M' As.length) (hdg : decode M.2.1 pc = .ok (.invokestatic idx, 3)) (q1 : Cond.methodLink M.1.cls idx M'.1 ∈ lw_all) (hh : nocov M pc = true)
    (hst : st = As.reverse ++ rest) (hcat : As.all (fun v => v.category == 1) = true) (hW : (rest.map fun v => v.category).sum ≤ 8) (hdd : d' + 1 ≤ d) (hbb : b1 ≤ b)
    (k : V E M' d' b1 0 (entL M'.2.2.1 As) [] h (fun v h' => V E M d (b - b1) (pc + 3) ls (rv M' v ++ rest) h' Q X) X) : V E M d b pc ls st h Q X := by
  obtain ⟨q2, q4, q5, hd, hpl, hh', hLL, hn⟩ := ok
  intro p l e R s m args below meth c H locs cells slots mc ms arr C hS hR hL h1 h2 h3 h4 h5 h6
  have hts := C.2.2.2.2.1
  have hM := V.met (l := l) C.2.2.2.2.2.2.2.2.2.2 hpl hh' (catA hcat) hn k
  exact V_fin hh C hS hL h1 h2 (b1 := b1) (b2 := b - b1) (by omega) (by omega) h5 h6 (vx_runS (As := As) (rest := rest) ⟨C.1, C.2.1, C.2.2.1, C.2.2.2.1, hts⟩ hM (va_cwS As.length hts (lw_S q1 q2 q4 q5) rfl rfl rfl hd (V_hR hdd hLL h1 h2)) ⟨PcV.blind, fun U e1 hW => ⟨rfl, by rw [e1]; exact hR, C.2.2.2.2.2.2.2.2.2.1.moved hW⟩⟩ rfl rfl hL.1 hst (by show 2 * 0 + _ ≤ 8; simpa using hW) hdg ⟨by omega, by omega⟩) (fun v h' hq => hq)
/-- a constructor's call -/
theorem V_invI (ok : OkI M' As.length) (hdg : decode M.2.1 pc = .ok (.invokespecial idx, 3)) (q1 : Cond.methodLink M.1.cls idx M'.1 ∈ lw_all) (hh : nocov M pc = true)
    (hst : st = As.reverse ++ .ref a :: rest) (hcat : As.all (fun v => v.category == 1) = true) (hW : (rest.map fun v => v.category).sum ≤ 8) (hdd : d' + 1 ≤ d) (hbb : b1 ≤ b)
    (k : V E M' d' b1 0 (entL M'.2.2.1 (.ref a :: As)) [] h (fun _ h' => V E M d (b - b1) (pc + 3) ls rest h' Q X) X) : V E M d b pc ls st h Q X := by
  obtain ⟨q2, q4, q5, hr0, hnm, hd, hpl, hh', hLL, hn⟩ := ok
  intro p l e R s m args below meth c H locs cells slots mc ms arr C hS hR hL h1 h2 h3 h4 h5 h6
  have hts := C.2.2.2.2.1
  have hM := V.met (l := l) C.2.2.2.2.2.2.2.2.2.2 hpl hh' (catB hcat) (by simpa using hn) k
  rw [show ws_ M'.1 M'.2.1 M'.2.2.1 M'.2.2.2.1 = ws_ M'.1 M'.2.1 M'.2.2.1 none by rw [hr0]] at hM
  exact V_fin (M' := M') hh C hS hL h1 h2 (b1 := b1) (b2 := b - b1) (by omega) (by omega) h5 h6 (vx_runI (As := As) (rest := rest) ⟨C.1, C.2.1, C.2.2.1, C.2.2.2.1, hts⟩ hM (cwI As.length hts (lw_meth q5) rfl rfl rfl (hts _ q4) (hts _ q1) (hts _ q2) hnm hd (V_hR hdd hLL h1 h2)) ⟨PcV.blind, fun U e1 hW => ⟨rfl, by rw [e1]; exact hR, C.2.2.2.2.2.2.2.2.2.1.moved hW⟩⟩ rfl rfl hL.1 hst (by show 2 * 0 + _ ≤ 8; simpa using hW) hdg ⟨by omega, by omega⟩) (fun v h' hq => by rw [hr0]; exact hq)
end Calls1
