/-! FOUNDATION 3: V's rules, an instruction kind each -/
section Rules1
variable {E : Ev} {M : Mt} {d b pc : Nat} {ls : List (Option Value)} {rest : List Value} {h : AH} {Q : Value → AH → Prop} {X : Nat → AH → Prop}
theorem bip {n : Int} (h : -128 ≤ n ∧ n ≤ 127) : (Int8.ofInt n).toInt32 = Int32.ofInt n := by
  apply Int32.toInt_inj.mp
  rw [Int8.toInt_toInt32, Int8.toInt_ofInt_of_le (by omega) (by omega), vI_toInt ⟨by omega, by omega⟩]
theorem sip {n : Int} (h : -32768 ≤ n ∧ n ≤ 32767) : (Int16.ofInt n).toInt32 = Int32.ofInt n := by
  apply Int32.toInt_inj.mp
  rw [Int16.toInt_toInt32, Int16.toInt_ofInt_of_le (by omega) (by omega), vI_toInt ⟨by omega, by omega⟩]
theorem vI0 : (0 : Int32) = Int32.ofInt 0 := rfl
theorem V_iconst {n : Int} (hdg : decode M.2.1 pc = .ok (.iconst n, 1)) (k : V E M d b (pc + 1) ls (vI n :: rest) h Q X) : V E M d b pc ls rest h Q X := by
  intro p l e R s m args below meth c H locs cells slots mc ms arr C hS hR hL h1 h2 h3 h4 h5 h6
  exact lv_iconst C.1 C.2.1 hdg rfl (k p l e R s m args below meth c H locs cells slots mc ms arr C hS hR hL h1 h2 h3 h4 h5 h6)
theorem V_bipush {n : Int} (hdg : decode M.2.1 pc = .ok (.bipush n, 2)) (hn : -128 ≤ n ∧ n ≤ 127) (k : V E M d b (pc + 2) ls (vI n :: rest) h Q X) : V E M d b pc ls rest h Q X := by
  intro p l e R s m args below meth c H locs cells slots mc ms arr C hS hR hL h1 h2 h3 h4 h5 h6
  exact lv_bipush C.1 C.2.1 hdg (bip hn) (k p l e R s m args below meth c H locs cells slots mc ms arr C hS hR hL h1 h2 h3 h4 h5 h6)
theorem V_sipush {n : Int} (hdg : decode M.2.1 pc = .ok (.sipush n, 3)) (hn : -32768 ≤ n ∧ n ≤ 32767) (k : V E M d b (pc + 3) ls (vI n :: rest) h Q X) : V E M d b pc ls rest h Q X := by
  intro p l e R s m args below meth c H locs cells slots mc ms arr C hS hR hL h1 h2 h3 h4 h5 h6
  exact lv_sipush C.1 C.2.1 hdg (sip hn) (k p l e R s m args below meth c H locs cells slots mc ms arr C hS hR hL h1 h2 h3 h4 h5 h6)
theorem V_ldc {idx : Nat} {v : Int32} (hdg : decode M.2.1 pc = .ok (.ldc idx, 2)) (q : Cond.constant M.1.cls idx v ∈ lw_all) {z : Int} (hz : v = Int32.ofInt z) (k : V E M d b (pc + 2) ls (vI z :: rest) h Q X) : V E M d b pc ls rest h Q X := by
  intro p l e R s m args below meth c H locs cells slots mc ms arr C hS hR hL h1 h2 h3 h4 h5 h6
  subst hz
  exact lv_ldc C.1 C.2.1 C.2.2.2.1 (C.2.2.2.2.1 _ q) hdg (k p l e R s m args below meth c H locs cells slots mc ms arr C hS hR hL h1 h2 h3 h4 h5 h6)
theorem V_ldcw {idx : Nat} {v : Int32} (hdg : decode M.2.1 pc = .ok (.ldc_w idx, 3)) (q : Cond.constant M.1.cls idx v ∈ lw_all) {z : Int} (hz : v = Int32.ofInt z) (k : V E M d b (pc + 3) ls (vI z :: rest) h Q X) : V E M d b pc ls rest h Q X := by
  intro p l e R s m args below meth c H locs cells slots mc ms arr C hS hR hL h1 h2 h3 h4 h5 h6
  subst hz
  exact lv_ldcw C.1 C.2.1 C.2.2.2.1 (C.2.2.2.2.1 _ q) hdg (k p l e R s m args below meth c H locs cells slots mc ms arr C hS hR hL h1 h2 h3 h4 h5 h6)
theorem V_null (hdg : decode M.2.1 pc = .ok (.aconst_null, 1)) (k : V E M d b (pc + 1) ls (.null :: rest) h Q X) : V E M d b pc ls rest h Q X := by
  intro p l e R s m args below meth c H locs cells slots mc ms arr C hS hR hL h1 h2 h3 h4 h5 h6
  exact lv_null C.1 C.2.1 hdg (k p l e R s m args below meth c H locs cells slots mc ms arr C hS hR hL h1 h2 h3 h4 h5 h6)
theorem V_iload_n {j : Fin 4} {z : Int} (hdg : decode M.2.1 pc = .ok (.iload_n j, 1)) (hl : ls[(j : Nat)]? = some (some (vI z))) (k : V E M d b (pc + 1) ls (vI z :: rest) h Q X) : V E M d b pc ls rest h Q X := by
  intro p l e R s m args below meth c H locs cells slots mc ms arr C hS hR hL h1 h2 h3 h4 h5 h6
  exact lv_iload_n C.1 C.2.1 hdg rfl (hL.get hl) (k p l e R s m args below meth c H locs cells slots mc ms arr C hS hR hL h1 h2 h3 h4 h5 h6)
theorem V_iload {j : Nat} {z : Int} (hdg : decode M.2.1 pc = .ok (.iload j, 2)) (hl : ls[j]? = some (some (vI z))) (k : V E M d b (pc + 2) ls (vI z :: rest) h Q X) : V E M d b pc ls rest h Q X := by
  intro p l e R s m args below meth c H locs cells slots mc ms arr C hS hR hL h1 h2 h3 h4 h5 h6
  exact lv_iload C.1 C.2.1 hdg (hL.get hl) (k p l e R s m args below meth c H locs cells slots mc ms arr C hS hR hL h1 h2 h3 h4 h5 h6)
theorem V_aload_n {j : Fin 4} {a : Nat} (hdg : decode M.2.1 pc = .ok (.aload_n j, 1)) (hl : ls[(j : Nat)]? = some (some (.ref a))) (k : V E M d b (pc + 1) ls (.ref a :: rest) h Q X) : V E M d b pc ls rest h Q X := by
  intro p l e R s m args below meth c H locs cells slots mc ms arr C hS hR hL h1 h2 h3 h4 h5 h6
  exact lv_aload_n C.1 C.2.1 hdg rfl (hL.get hl) (k p l e R s m args below meth c H locs cells slots mc ms arr C hS hR hL h1 h2 h3 h4 h5 h6)
theorem V_aload {j a : Nat} (hdg : decode M.2.1 pc = .ok (.aload j, 2)) (hl : ls[j]? = some (some (.ref a))) (k : V E M d b (pc + 2) ls (.ref a :: rest) h Q X) : V E M d b pc ls rest h Q X := by
  intro p l e R s m args below meth c H locs cells slots mc ms arr C hS hR hL h1 h2 h3 h4 h5 h6
  exact lv_aload C.1 C.2.1 hdg (hL.get hl) (k p l e R s m args below meth c H locs cells slots mc ms arr C hS hR hL h1 h2 h3 h4 h5 h6)
theorem V_aload_nN {j : Fin 4} (hdg : decode M.2.1 pc = .ok (.aload_n j, 1)) (hl : ls[(j : Nat)]? = some (some .null)) (k : V E M d b (pc + 1) ls (.null :: rest) h Q X) : V E M d b pc ls rest h Q X := by
  intro p l e R s m args below meth c H locs cells slots mc ms arr C hS hR hL h1 h2 h3 h4 h5 h6
  exact lv_aload_nN C.1 C.2.1 hdg rfl (hL.get hl) (k p l e R s m args below meth c H locs cells slots mc ms arr C hS hR hL h1 h2 h3 h4 h5 h6)
theorem V_aloadN {j : Nat} (hdg : decode M.2.1 pc = .ok (.aload j, 2)) (hl : ls[j]? = some (some .null)) (k : V E M d b (pc + 2) ls (.null :: rest) h Q X) : V E M d b pc ls rest h Q X := by
  intro p l e R s m args below meth c H locs cells slots mc ms arr C hS hR hL h1 h2 h3 h4 h5 h6
  exact lv_aloadN C.1 C.2.1 hdg (hL.get hl) (k p l e R s m args below meth c H locs cells slots mc ms arr C hS hR hL h1 h2 h3 h4 h5 h6)
theorem V_istore_n {j : Fin 4} {z : Int} (hdg : decode M.2.1 pc = .ok (.istore_n j, 1)) (hj : (j : Nat) < M.2.2.1) (k : V E M d b (pc + 1) (ls.set (j : Nat) (some (vI z))) rest h Q X) : V E M d b pc ls (vI z :: rest) h Q X := by
  intro p l e R s m args below meth c H locs cells slots mc ms arr C hS hR hL h1 h2 h3 h4 h5 h6
  exact lv_istore_n C.1 C.2.1 hdg rfl hL.has hj rfl (fun arr2 hl2 => k p l e R s m args below meth c H locs cells slots mc ms arr2 C hS hR (hL.set rfl hl2) h1 h2 h3 h4 h5 h6)
theorem V_istore {j : Nat} {z : Int} (hdg : decode M.2.1 pc = .ok (.istore j, 2)) (hj : j < M.2.2.1) (k : V E M d b (pc + 2) (ls.set j (some (vI z))) rest h Q X) : V E M d b pc ls (vI z :: rest) h Q X := by
  intro p l e R s m args below meth c H locs cells slots mc ms arr C hS hR hL h1 h2 h3 h4 h5 h6
  exact lv_istore C.1 C.2.1 hdg hL.has hj rfl (fun arr2 hl2 => k p l e R s m args below meth c H locs cells slots mc ms arr2 C hS hR (hL.set rfl hl2) h1 h2 h3 h4 h5 h6)
theorem V_astore_n {j : Fin 4} {a : Nat} (hdg : decode M.2.1 pc = .ok (.astore_n j, 1)) (hj : (j : Nat) < M.2.2.1) (k : V E M d b (pc + 1) (ls.set (j : Nat) (some (.ref a))) rest h Q X) : V E M d b pc ls (.ref a :: rest) h Q X := by
  intro p l e R s m args below meth c H locs cells slots mc ms arr C hS hR hL h1 h2 h3 h4 h5 h6
  exact lv_astore_n C.1 C.2.1 hdg rfl hL.has hj rfl (fun arr2 hl2 => k p l e R s m args below meth c H locs cells slots mc ms arr2 C hS hR (hL.set rfl hl2) h1 h2 h3 h4 h5 h6)
theorem V_astore {j a : Nat} (hdg : decode M.2.1 pc = .ok (.astore j, 2)) (hj : j < M.2.2.1) (k : V E M d b (pc + 2) (ls.set j (some (.ref a))) rest h Q X) : V E M d b pc ls (.ref a :: rest) h Q X := by
  intro p l e R s m args below meth c H locs cells slots mc ms arr C hS hR hL h1 h2 h3 h4 h5 h6
  exact lv_astore C.1 C.2.1 hdg hL.has hj rfl (fun arr2 hl2 => k p l e R s m args below meth c H locs cells slots mc ms arr2 C hS hR (hL.set rfl hl2) h1 h2 h3 h4 h5 h6)
theorem V_astore_nN {j : Fin 4} (hdg : decode M.2.1 pc = .ok (.astore_n j, 1)) (hj : (j : Nat) < M.2.2.1) (k : V E M d b (pc + 1) (ls.set (j : Nat) (some (.null))) rest h Q X) : V E M d b pc ls (.null :: rest) h Q X := by
  intro p l e R s m args below meth c H locs cells slots mc ms arr C hS hR hL h1 h2 h3 h4 h5 h6
  exact lv_astore_nN C.1 C.2.1 hdg rfl hL.has hj rfl (fun arr2 hl2 => k p l e R s m args below meth c H locs cells slots mc ms arr2 C hS hR (hL.set rfl hl2) h1 h2 h3 h4 h5 h6)
theorem V_astoreN {j : Nat} (hdg : decode M.2.1 pc = .ok (.astore j, 2)) (hj : j < M.2.2.1) (k : V E M d b (pc + 2) (ls.set j (some (.null))) rest h Q X) : V E M d b pc ls (.null :: rest) h Q X := by
  intro p l e R s m args below meth c H locs cells slots mc ms arr C hS hR hL h1 h2 h3 h4 h5 h6
  exact lv_astoreN C.1 C.2.1 hdg hL.has hj rfl (fun arr2 hl2 => k p l e R s m args below meth c H locs cells slots mc ms arr2 C hS hR (hL.set rfl hl2) h1 h2 h3 h4 h5 h6)
theorem V_iinc {j : Nat} {n z : Int} (hdg : decode M.2.1 pc = .ok (.iinc j n, 3)) (hl : ls[j]? = some (some (vI z))) (hj : j < M.2.2.1) (k : V E M d b (pc + 3) (ls.set j (some (vI (z + n)))) rest h Q X) : V E M d b pc ls rest h Q X := by
  intro p l e R s m args below meth c H locs cells slots mc ms arr C hS hR hL h1 h2 h3 h4 h5 h6
  obtain ⟨i, hi⟩ := List.getElem?_of_mem (lvP_mem.mpr hl : (j, vI z) ∈ lvP ls)
  exact lv_iinc (k := i) C.1 C.2.1 hdg hL.has hi (by rw [← Int32.ofInt_add]) hj rfl (fun arr2 hl2 => k p l e R s m args below meth c H locs cells slots mc ms arr2 C hS hR (hL.set (x := vI (z + n)) rfl hl2) h1 h2 h3 h4 h5 h6)
theorem V_iadd {x y : Int} (hdg : decode M.2.1 pc = .ok (.iadd, 1)) (k : V E M d b (pc + 1) ls (vI (x + y) :: rest) h Q X) : V E M d b pc ls (vI y :: vI x :: rest) h Q X := by
  intro p l e R s m args below meth c H locs cells slots mc ms arr C hS hR hL h1 h2 h3 h4 h5 h6
  refine lv_iadd C.1 C.2.1 hdg ?_
  rw [← Int32.ofInt_add]
  exact k p l e R s m args below meth c H locs cells slots mc ms arr C hS hR hL h1 h2 h3 h4 h5 h6
theorem V_isub {x y : Int} (hdg : decode M.2.1 pc = .ok (.isub, 1)) (k : V E M d b (pc + 1) ls (vI (x - y) :: rest) h Q X) : V E M d b pc ls (vI y :: vI x :: rest) h Q X := by
  intro p l e R s m args below meth c H locs cells slots mc ms arr C hS hR hL h1 h2 h3 h4 h5 h6
  refine lv_isub C.1 C.2.1 hdg ?_
  rw [← Int32.ofInt_sub]
  exact k p l e R s m args below meth c H locs cells slots mc ms arr C hS hR hL h1 h2 h3 h4 h5 h6
theorem V_imul {x y : Int} (hdg : decode M.2.1 pc = .ok (.imul, 1)) (k : V E M d b (pc + 1) ls (vI (x * y) :: rest) h Q X) : V E M d b pc ls (vI y :: vI x :: rest) h Q X := by
  intro p l e R s m args below meth c H locs cells slots mc ms arr C hS hR hL h1 h2 h3 h4 h5 h6
  refine lv_imul C.1 C.2.1 hdg ?_
  rw [← Int32.ofInt_mul]
  exact k p l e R s m args below meth c H locs cells slots mc ms arr C hS hR hL h1 h2 h3 h4 h5 h6
theorem V_ineg {x : Int} (hdg : decode M.2.1 pc = .ok (.ineg, 1)) (k : V E M d b (pc + 1) ls (vI (-x) :: rest) h Q X) : V E M d b pc ls (vI x :: rest) h Q X := by
  intro p l e R s m args below meth c H locs cells slots mc ms arr C hS hR hL h1 h2 h3 h4 h5 h6
  refine lv_ineg C.1 C.2.1 hdg ?_
  rw [← Int32.ofInt_neg]
  exact k p l e R s m args below meth c H locs cells slots mc ms arr C hS hR hL h1 h2 h3 h4 h5 h6
def zAnd (x y : Int) : Int := (Int32.ofInt x &&& Int32.ofInt y).toInt
theorem V_iand {x y : Int} (hdg : decode M.2.1 pc = .ok (.iand, 1)) (k : V E M d b (pc + 1) ls (vI (zAnd x y) :: rest) h Q X) : V E M d b pc ls (vI y :: vI x :: rest) h Q X := by
  intro p l e R s m args below meth c H locs cells slots mc ms arr C hS hR hL h1 h2 h3 h4 h5 h6
  refine lv_iand C.1 C.2.1 hdg ?_
  rw [show (Int32.ofInt x &&& Int32.ofInt y) = Int32.ofInt (zAnd x y) by unfold zAnd; rw [Int32.ofInt_toInt]]
  exact k p l e R s m args below meth c H locs cells slots mc ms arr C hS hR hL h1 h2 h3 h4 h5 h6
def zOr (x y : Int) : Int := (Int32.ofInt x ||| Int32.ofInt y).toInt
theorem V_ior {x y : Int} (hdg : decode M.2.1 pc = .ok (.ior, 1)) (k : V E M d b (pc + 1) ls (vI (zOr x y) :: rest) h Q X) : V E M d b pc ls (vI y :: vI x :: rest) h Q X := by
  intro p l e R s m args below meth c H locs cells slots mc ms arr C hS hR hL h1 h2 h3 h4 h5 h6
  refine lv_ior C.1 C.2.1 hdg ?_
  rw [show (Int32.ofInt x ||| Int32.ofInt y) = Int32.ofInt (zOr x y) by unfold zOr; rw [Int32.ofInt_toInt]]
  exact k p l e R s m args below meth c H locs cells slots mc ms arr C hS hR hL h1 h2 h3 h4 h5 h6
def zXor (x y : Int) : Int := (Int32.ofInt x ^^^ Int32.ofInt y).toInt
theorem V_ixor {x y : Int} (hdg : decode M.2.1 pc = .ok (.ixor, 1)) (k : V E M d b (pc + 1) ls (vI (zXor x y) :: rest) h Q X) : V E M d b pc ls (vI y :: vI x :: rest) h Q X := by
  intro p l e R s m args below meth c H locs cells slots mc ms arr C hS hR hL h1 h2 h3 h4 h5 h6
  refine lv_ixor C.1 C.2.1 hdg ?_
  rw [show (Int32.ofInt x ^^^ Int32.ofInt y) = Int32.ofInt (zXor x y) by unfold zXor; rw [Int32.ofInt_toInt]]
  exact k p l e R s m args below meth c H locs cells slots mc ms arr C hS hR hL h1 h2 h3 h4 h5 h6
def zShl (x y : Int) : Int := (Int32.ofInt x <<< (Int32.ofInt y &&& 31)).toInt
theorem V_ishl {x y : Int} (hdg : decode M.2.1 pc = .ok (.ishl, 1)) (k : V E M d b (pc + 1) ls (vI (zShl x y) :: rest) h Q X) : V E M d b pc ls (vI y :: vI x :: rest) h Q X := by
  intro p l e R s m args below meth c H locs cells slots mc ms arr C hS hR hL h1 h2 h3 h4 h5 h6
  refine lv_ishl C.1 C.2.1 hdg ?_
  rw [show (Int32.ofInt x <<< (Int32.ofInt y &&& 31)) = Int32.ofInt (zShl x y) by unfold zShl; rw [Int32.ofInt_toInt]]
  exact k p l e R s m args below meth c H locs cells slots mc ms arr C hS hR hL h1 h2 h3 h4 h5 h6
def zShr (x y : Int) : Int := (Int32.ofInt x >>> (Int32.ofInt y &&& 31)).toInt
theorem V_ishr {x y : Int} (hdg : decode M.2.1 pc = .ok (.ishr, 1)) (k : V E M d b (pc + 1) ls (vI (zShr x y) :: rest) h Q X) : V E M d b pc ls (vI y :: vI x :: rest) h Q X := by
  intro p l e R s m args below meth c H locs cells slots mc ms arr C hS hR hL h1 h2 h3 h4 h5 h6
  refine lv_ishr C.1 C.2.1 hdg ?_
  rw [show (Int32.ofInt x >>> (Int32.ofInt y &&& 31)) = Int32.ofInt (zShr x y) by unfold zShr; rw [Int32.ofInt_toInt]]
  exact k p l e R s m args below meth c H locs cells slots mc ms arr C hS hR hL h1 h2 h3 h4 h5 h6
def zUshr (x y : Int) : Int := ((Int32.ofInt x).toUInt32 >>> ((Int32.ofInt y).toUInt32 &&& Int32.toUInt32 31)).toInt32.toInt
theorem V_iushr {x y : Int} (hdg : decode M.2.1 pc = .ok (.iushr, 1)) (k : V E M d b (pc + 1) ls (vI (zUshr x y) :: rest) h Q X) : V E M d b pc ls (vI y :: vI x :: rest) h Q X := by
  intro p l e R s m args below meth c H locs cells slots mc ms arr C hS hR hL h1 h2 h3 h4 h5 h6
  refine lv_iushr C.1 C.2.1 hdg (v := Int32.ofInt (zUshr x y)) (by unfold zUshr; rw [Int32.ofInt_toInt]) ?_
  exact k p l e R s m args below meth c H locs cells slots mc ms arr C hS hR hL h1 h2 h3 h4 h5 h6
def zByte (x : Int) : Int := (Int32.ofInt x).toInt8.toInt32.toInt
theorem V_i2b {x : Int} (hdg : decode M.2.1 pc = .ok (.i2b, 1)) (k : V E M d b (pc + 1) ls (vI (zByte x) :: rest) h Q X) : V E M d b pc ls (vI x :: rest) h Q X := by
  intro p l e R s m args below meth c H locs cells slots mc ms arr C hS hR hL h1 h2 h3 h4 h5 h6
  refine lv_i2b C.1 C.2.1 hdg (v := Int32.ofInt (zByte x)) (by unfold zByte; rw [Int32.ofInt_toInt]) ?_
  exact k p l e R s m args below meth c H locs cells slots mc ms arr C hS hR hL h1 h2 h3 h4 h5 h6
theorem V_dup {x : Value} (hdg : decode M.2.1 pc = .ok (.dup, 1)) (hx : x.category = 1) (k : V E M d b (pc + 1) ls (x :: x :: rest) h Q X) : V E M d b pc ls (x :: rest) h Q X := by
  intro p l e R s m args below meth c H locs cells slots mc ms arr C hS hR hL h1 h2 h3 h4 h5 h6
  exact lv_dup C.1 C.2.1 hdg hx (k p l e R s m args below meth c H locs cells slots mc ms arr C hS hR hL h1 h2 h3 h4 h5 h6)
theorem V_pop {x : Value} (hdg : decode M.2.1 pc = .ok (.pop, 1)) (hx : x.category = 1) (k : V E M d b (pc + 1) ls rest h Q X) : V E M d b pc ls (x :: rest) h Q X := by
  intro p l e R s m args below meth c H locs cells slots mc ms arr C hS hR hL h1 h2 h3 h4 h5 h6
  exact lv_pop C.1 C.2.1 hdg hx (k p l e R s m args below meth c H locs cells slots mc ms arr C hS hR hL h1 h2 h3 h4 h5 h6)
theorem V_dup_x1 {x y : Value} (hdg : decode M.2.1 pc = .ok (.dup_x1, 1)) (hx : x.category = 1) (hy : y.category = 1) (k : V E M d b (pc + 1) ls (x :: y :: x :: rest) h Q X) : V E M d b pc ls (x :: y :: rest) h Q X := by
  intro p l e R s m args below meth c H locs cells slots mc ms arr C hS hR hL h1 h2 h3 h4 h5 h6
  exact lv_dup_x1 C.1 C.2.1 hdg hx hy (k p l e R s m args below meth c H locs cells slots mc ms arr C hS hR hL h1 h2 h3 h4 h5 h6)
theorem V_dup2 {x y : Value} (hdg : decode M.2.1 pc = .ok (.dup2, 1)) (hx : x.category = 1) (hy : y.category = 1) (k : V E M d b (pc + 1) ls (x :: y :: x :: y :: rest) h Q X) : V E M d b pc ls (x :: y :: rest) h Q X := by
  intro p l e R s m args below meth c H locs cells slots mc ms arr C hS hR hL h1 h2 h3 h4 h5 h6
  exact lv_dup2_11 C.1 C.2.1 hdg hx hy (k p l e R s m args below meth c H locs cells slots mc ms arr C hS hR hL h1 h2 h3 h4 h5 h6)
theorem V_goto {off : Int} (tgt : Nat) (hdg : decode M.2.1 pc = .ok (.goto off, 3)) (ht : (pc : Int) + off = (tgt : Int)) (k : V E M d b tgt ls rest h Q X) : V E M d b pc ls rest h Q X := by
  intro p l e R s m args below meth c H locs cells slots mc ms arr C hS hR hL h1 h2 h3 h4 h5 h6
  exact lv_goto C.1 C.2.1 hdg ht (k p l e R s m args below meth c H locs cells slots mc ms arr C hS hR hL h1 h2 h3 h4 h5 h6)
theorem V_icmp_eq {x y off : Int} (tgt : Nat) (hdg : decode M.2.1 pc = .ok (.if_icmp .eq off, 3)) (ht : (pc : Int) + off = (tgt : Int)) (hx : inr x) (hy : inr y) (kt : x = y → V E M d b tgt ls rest h Q X) (kf : ¬ x = y → V E M d b (pc + 3) ls rest h Q X) : V E M d b pc ls (vI y :: vI x :: rest) h Q X := by
  intro p l e R s m args below meth c H locs cells slots mc ms arr C hS hR hL h1 h2 h3 h4 h5 h6
  exact lv_icmp_eq C.1 C.2.1 hdg ht (fun c1 => kt ((vI_eq hx hy).mp c1) p l e R s m args below meth c H locs cells slots mc ms arr C hS hR hL h1 h2 h3 h4 h5 h6) (fun c1 => kf ((fun e9 => c1 ((vI_eq hx hy).mpr e9))) p l e R s m args below meth c H locs cells slots mc ms arr C hS hR hL h1 h2 h3 h4 h5 h6)
theorem V_if_eq {x off : Int} (tgt : Nat) (hdg : decode M.2.1 pc = .ok (.ifCond .eq off, 3)) (ht : (pc : Int) + off = (tgt : Int)) (hx : inr x) (kt : x = 0 → V E M d b tgt ls rest h Q X) (kf : ¬ x = 0 → V E M d b (pc + 3) ls rest h Q X) : V E M d b pc ls (vI x :: rest) h Q X := by
  intro p l e R s m args below meth c H locs cells slots mc ms arr C hS hR hL h1 h2 h3 h4 h5 h6
  have hy : inr 0 := by decide
  exact lv_if_eq C.1 C.2.1 hdg ht (fun c1 => kt ((vI_eq hx hy).mp c1) p l e R s m args below meth c H locs cells slots mc ms arr C hS hR hL h1 h2 h3 h4 h5 h6) (fun c1 => kf ((fun e9 => c1 ((vI_eq hx hy).mpr e9))) p l e R s m args below meth c H locs cells slots mc ms arr C hS hR hL h1 h2 h3 h4 h5 h6)
theorem V_icmp_ne {x y off : Int} (tgt : Nat) (hdg : decode M.2.1 pc = .ok (.if_icmp .ne off, 3)) (ht : (pc : Int) + off = (tgt : Int)) (hx : inr x) (hy : inr y) (kt : x ≠ y → V E M d b tgt ls rest h Q X) (kf : x = y → V E M d b (pc + 3) ls rest h Q X) : V E M d b pc ls (vI y :: vI x :: rest) h Q X := by
  intro p l e R s m args below meth c H locs cells slots mc ms arr C hS hR hL h1 h2 h3 h4 h5 h6
  exact lv_icmp_ne C.1 C.2.1 hdg ht (fun c1 => kt ((fun e9 => c1 ((vI_eq hx hy).mpr e9))) p l e R s m args below meth c H locs cells slots mc ms arr C hS hR hL h1 h2 h3 h4 h5 h6) (fun c1 => kf ((vI_eq hx hy).mp c1) p l e R s m args below meth c H locs cells slots mc ms arr C hS hR hL h1 h2 h3 h4 h5 h6)
theorem V_if_ne {x off : Int} (tgt : Nat) (hdg : decode M.2.1 pc = .ok (.ifCond .ne off, 3)) (ht : (pc : Int) + off = (tgt : Int)) (hx : inr x) (kt : x ≠ 0 → V E M d b tgt ls rest h Q X) (kf : x = 0 → V E M d b (pc + 3) ls rest h Q X) : V E M d b pc ls (vI x :: rest) h Q X := by
  intro p l e R s m args below meth c H locs cells slots mc ms arr C hS hR hL h1 h2 h3 h4 h5 h6
  have hy : inr 0 := by decide
  exact lv_if_ne C.1 C.2.1 hdg ht (fun c1 => kt ((fun e9 => c1 ((vI_eq hx hy).mpr e9))) p l e R s m args below meth c H locs cells slots mc ms arr C hS hR hL h1 h2 h3 h4 h5 h6) (fun c1 => kf ((vI_eq hx hy).mp c1) p l e R s m args below meth c H locs cells slots mc ms arr C hS hR hL h1 h2 h3 h4 h5 h6)
theorem V_icmp_lt {x y off : Int} (tgt : Nat) (hdg : decode M.2.1 pc = .ok (.if_icmp .lt off, 3)) (ht : (pc : Int) + off = (tgt : Int)) (hx : inr x) (hy : inr y) (kt : x < y → V E M d b tgt ls rest h Q X) (kf : y ≤ x → V E M d b (pc + 3) ls rest h Q X) : V E M d b pc ls (vI y :: vI x :: rest) h Q X := by
  intro p l e R s m args below meth c H locs cells slots mc ms arr C hS hR hL h1 h2 h3 h4 h5 h6
  exact lv_icmp_lt C.1 C.2.1 hdg ht (fun c1 => kt ((vI_lt hx hy).mp c1) p l e R s m args below meth c H locs cells slots mc ms arr C hS hR hL h1 h2 h3 h4 h5 h6) (fun c1 => kf ((Int.not_lt.mp (fun e9 => c1 ((vI_lt hx hy).mpr e9)))) p l e R s m args below meth c H locs cells slots mc ms arr C hS hR hL h1 h2 h3 h4 h5 h6)
theorem V_if_lt {x off : Int} (tgt : Nat) (hdg : decode M.2.1 pc = .ok (.ifCond .lt off, 3)) (ht : (pc : Int) + off = (tgt : Int)) (hx : inr x) (kt : x < 0 → V E M d b tgt ls rest h Q X) (kf : 0 ≤ x → V E M d b (pc + 3) ls rest h Q X) : V E M d b pc ls (vI x :: rest) h Q X := by
  intro p l e R s m args below meth c H locs cells slots mc ms arr C hS hR hL h1 h2 h3 h4 h5 h6
  have hy : inr 0 := by decide
  exact lv_if_lt C.1 C.2.1 hdg ht (fun c1 => kt ((vI_lt hx hy).mp c1) p l e R s m args below meth c H locs cells slots mc ms arr C hS hR hL h1 h2 h3 h4 h5 h6) (fun c1 => kf ((Int.not_lt.mp (fun e9 => c1 ((vI_lt hx hy).mpr e9)))) p l e R s m args below meth c H locs cells slots mc ms arr C hS hR hL h1 h2 h3 h4 h5 h6)
theorem V_icmp_ge {x y off : Int} (tgt : Nat) (hdg : decode M.2.1 pc = .ok (.if_icmp .ge off, 3)) (ht : (pc : Int) + off = (tgt : Int)) (hx : inr x) (hy : inr y) (kt : y ≤ x → V E M d b tgt ls rest h Q X) (kf : x < y → V E M d b (pc + 3) ls rest h Q X) : V E M d b pc ls (vI y :: vI x :: rest) h Q X := by
  intro p l e R s m args below meth c H locs cells slots mc ms arr C hS hR hL h1 h2 h3 h4 h5 h6
  exact lv_icmp_ge C.1 C.2.1 hdg ht (fun c1 => kt ((vI_le hy hx).mp c1) p l e R s m args below meth c H locs cells slots mc ms arr C hS hR hL h1 h2 h3 h4 h5 h6) (fun c1 => kf ((Int.not_le.mp (fun e9 => c1 ((vI_le hy hx).mpr e9)))) p l e R s m args below meth c H locs cells slots mc ms arr C hS hR hL h1 h2 h3 h4 h5 h6)
theorem V_if_ge {x off : Int} (tgt : Nat) (hdg : decode M.2.1 pc = .ok (.ifCond .ge off, 3)) (ht : (pc : Int) + off = (tgt : Int)) (hx : inr x) (kt : 0 ≤ x → V E M d b tgt ls rest h Q X) (kf : x < 0 → V E M d b (pc + 3) ls rest h Q X) : V E M d b pc ls (vI x :: rest) h Q X := by
  intro p l e R s m args below meth c H locs cells slots mc ms arr C hS hR hL h1 h2 h3 h4 h5 h6
  have hy : inr 0 := by decide
  exact lv_if_ge C.1 C.2.1 hdg ht (fun c1 => kt ((vI_le hy hx).mp c1) p l e R s m args below meth c H locs cells slots mc ms arr C hS hR hL h1 h2 h3 h4 h5 h6) (fun c1 => kf ((Int.not_le.mp (fun e9 => c1 ((vI_le hy hx).mpr e9)))) p l e R s m args below meth c H locs cells slots mc ms arr C hS hR hL h1 h2 h3 h4 h5 h6)
theorem V_icmp_gt {x y off : Int} (tgt : Nat) (hdg : decode M.2.1 pc = .ok (.if_icmp .gt off, 3)) (ht : (pc : Int) + off = (tgt : Int)) (hx : inr x) (hy : inr y) (kt : y < x → V E M d b tgt ls rest h Q X) (kf : x ≤ y → V E M d b (pc + 3) ls rest h Q X) : V E M d b pc ls (vI y :: vI x :: rest) h Q X := by
  intro p l e R s m args below meth c H locs cells slots mc ms arr C hS hR hL h1 h2 h3 h4 h5 h6
  exact lv_icmp_gt C.1 C.2.1 hdg ht (fun c1 => kt ((vI_lt hy hx).mp c1) p l e R s m args below meth c H locs cells slots mc ms arr C hS hR hL h1 h2 h3 h4 h5 h6) (fun c1 => kf ((Int.not_lt.mp (fun e9 => c1 ((vI_lt hy hx).mpr e9)))) p l e R s m args below meth c H locs cells slots mc ms arr C hS hR hL h1 h2 h3 h4 h5 h6)
theorem V_if_gt {x off : Int} (tgt : Nat) (hdg : decode M.2.1 pc = .ok (.ifCond .gt off, 3)) (ht : (pc : Int) + off = (tgt : Int)) (hx : inr x) (kt : 0 < x → V E M d b tgt ls rest h Q X) (kf : x ≤ 0 → V E M d b (pc + 3) ls rest h Q X) : V E M d b pc ls (vI x :: rest) h Q X := by
  intro p l e R s m args below meth c H locs cells slots mc ms arr C hS hR hL h1 h2 h3 h4 h5 h6
  have hy : inr 0 := by decide
  exact lv_if_gt C.1 C.2.1 hdg ht (fun c1 => kt ((vI_lt hy hx).mp c1) p l e R s m args below meth c H locs cells slots mc ms arr C hS hR hL h1 h2 h3 h4 h5 h6) (fun c1 => kf ((Int.not_lt.mp (fun e9 => c1 ((vI_lt hy hx).mpr e9)))) p l e R s m args below meth c H locs cells slots mc ms arr C hS hR hL h1 h2 h3 h4 h5 h6)
theorem V_icmp_le {x y off : Int} (tgt : Nat) (hdg : decode M.2.1 pc = .ok (.if_icmp .le off, 3)) (ht : (pc : Int) + off = (tgt : Int)) (hx : inr x) (hy : inr y) (kt : x ≤ y → V E M d b tgt ls rest h Q X) (kf : y < x → V E M d b (pc + 3) ls rest h Q X) : V E M d b pc ls (vI y :: vI x :: rest) h Q X := by
  intro p l e R s m args below meth c H locs cells slots mc ms arr C hS hR hL h1 h2 h3 h4 h5 h6
  exact lv_icmp_le C.1 C.2.1 hdg ht (fun c1 => kt ((vI_le hx hy).mp c1) p l e R s m args below meth c H locs cells slots mc ms arr C hS hR hL h1 h2 h3 h4 h5 h6) (fun c1 => kf ((Int.not_le.mp (fun e9 => c1 ((vI_le hx hy).mpr e9)))) p l e R s m args below meth c H locs cells slots mc ms arr C hS hR hL h1 h2 h3 h4 h5 h6)
theorem V_if_le {x off : Int} (tgt : Nat) (hdg : decode M.2.1 pc = .ok (.ifCond .le off, 3)) (ht : (pc : Int) + off = (tgt : Int)) (hx : inr x) (kt : x ≤ 0 → V E M d b tgt ls rest h Q X) (kf : 0 < x → V E M d b (pc + 3) ls rest h Q X) : V E M d b pc ls (vI x :: rest) h Q X := by
  intro p l e R s m args below meth c H locs cells slots mc ms arr C hS hR hL h1 h2 h3 h4 h5 h6
  have hy : inr 0 := by decide
  exact lv_if_le C.1 C.2.1 hdg ht (fun c1 => kt ((vI_le hx hy).mp c1) p l e R s m args below meth c H locs cells slots mc ms arr C hS hR hL h1 h2 h3 h4 h5 h6) (fun c1 => kf ((Int.not_le.mp (fun e9 => c1 ((vI_le hx hy).mpr e9)))) p l e R s m args below meth c H locs cells slots mc ms arr C hS hR hL h1 h2 h3 h4 h5 h6)
theorem V_ifnull {a : Nat} {off : Int} (hdg : decode M.2.1 pc = .ok (.ifnull off, 3)) (k : V E M d b (pc + 3) ls rest h Q X) : V E M d b pc ls (.ref a :: rest) h Q X := by
  intro p l e R s m args below meth c H locs cells slots mc ms arr C hS hR hL h1 h2 h3 h4 h5 h6
  exact lv_ifnull C.1 C.2.1 hdg (k p l e R s m args below meth c H locs cells slots mc ms arr C hS hR hL h1 h2 h3 h4 h5 h6)
theorem V_ifnullN {off : Int} (tgt : Nat) (hdg : decode M.2.1 pc = .ok (.ifnull off, 3)) (ht : (pc : Int) + off = (tgt : Int)) (k : V E M d b tgt ls rest h Q X) : V E M d b pc ls (.null :: rest) h Q X := by
  intro p l e R s m args below meth c H locs cells slots mc ms arr C hS hR hL h1 h2 h3 h4 h5 h6
  exact lv_ifnullN C.1 C.2.1 hdg ht (k p l e R s m args below meth c H locs cells slots mc ms arr C hS hR hL h1 h2 h3 h4 h5 h6)
theorem V_ifnonnull {a : Nat} {off : Int} (tgt : Nat) (hdg : decode M.2.1 pc = .ok (.ifnonnull off, 3)) (ht : (pc : Int) + off = (tgt : Int)) (k : V E M d b tgt ls rest h Q X) : V E M d b pc ls (.ref a :: rest) h Q X := by
  intro p l e R s m args below meth c H locs cells slots mc ms arr C hS hR hL h1 h2 h3 h4 h5 h6
  exact lv_ifnonnull C.1 C.2.1 hdg ht (k p l e R s m args below meth c H locs cells slots mc ms arr C hS hR hL h1 h2 h3 h4 h5 h6)
theorem V_ifnonnullN {off : Int} (hdg : decode M.2.1 pc = .ok (.ifnonnull off, 3)) (k : V E M d b (pc + 3) ls rest h Q X) : V E M d b pc ls (.null :: rest) h Q X := by
  intro p l e R s m args below meth c H locs cells slots mc ms arr C hS hR hL h1 h2 h3 h4 h5 h6
  exact lv_ifnonnullN C.1 C.2.1 hdg (k p l e R s m args below meth c H locs cells slots mc ms arr C hS hR hL h1 h2 h3 h4 h5 h6)
theorem V_acmp_eq {rx ry : Option Nat} {off : Int} (tgt : Nat) (hdg : decode M.2.1 pc = .ok (.if_acmp .eq off, 3)) (ht : (pc : Int) + off = (tgt : Int)) (kt : rx = ry → V E M d b tgt ls rest h Q X) (kf : ¬ rx = ry → V E M d b (pc + 3) ls rest h Q X) : V E M d b pc ls (va_rf ry :: va_rf rx :: rest) h Q X := by
  intro p l e R s m args below meth c H locs cells slots mc ms arr C hS hR hL h1 h2 h3 h4 h5 h6
  exact lv_acmp_eq C.1 C.2.1 hdg ht (fun c1 => kt c1 p l e R s m args below meth c H locs cells slots mc ms arr C hS hR hL h1 h2 h3 h4 h5 h6) (fun c1 => kf c1 p l e R s m args below meth c H locs cells slots mc ms arr C hS hR hL h1 h2 h3 h4 h5 h6)
theorem V_acmp_ne {rx ry : Option Nat} {off : Int} (tgt : Nat) (hdg : decode M.2.1 pc = .ok (.if_acmp .ne off, 3)) (ht : (pc : Int) + off = (tgt : Int)) (kt : rx ≠ ry → V E M d b tgt ls rest h Q X) (kf : rx = ry → V E M d b (pc + 3) ls rest h Q X) : V E M d b pc ls (va_rf ry :: va_rf rx :: rest) h Q X := by
  intro p l e R s m args below meth c H locs cells slots mc ms arr C hS hR hL h1 h2 h3 h4 h5 h6
  exact lv_acmp_ne C.1 C.2.1 hdg ht (fun c1 => kt c1 p l e R s m args below meth c H locs cells slots mc ms arr C hS hR hL h1 h2 h3 h4 h5 h6) (fun c1 => kf c1 p l e R s m args below meth c H locs cells slots mc ms arr C hS hR hL h1 h2 h3 h4 h5 h6)
theorem V_lookup {dflt x : Int} {ps : Array (Int × Int)} {len : Nat} {off : Int} (tgt : Nat) (hdg : decode M.2.1 pc = .ok (.lookupswitch dflt ps, len)) (hp : (ps.toList.zip (ps.toList.drop 1)).all (fun (a, next) => a.1 < next.1) = true) (hx : inr x) (ho : Op.lookupswitch.offset ps.toList dflt x = off) (ht : (pc : Int) + off = (tgt : Int))
    (k : V E M d b tgt ls rest h Q X) : V E M d b pc ls (vI x :: rest) h Q X := by
  intro p l e R s m args below meth c H locs cells slots mc ms arr C hS hR hL h1 h2 h3 h4 h5 h6
  exact lv_lookup C.1 C.2.1 hdg hp (by rw [vI_toInt hx]; exact ho) ht (k p l e R s m args below meth c H locs cells slots mc ms arr C hS hR hL h1 h2 h3 h4 h5 h6)
theorem V_tableOut {dflt lo hi x : Int} {offs : Array Int} {len : Nat} (tgt : Nat) (hdg : decode M.2.1 pc = .ok (.tableswitch dflt lo hi offs, len)) (hx : inr x) (hq : x < lo ∨ hi < x) (ht : (pc : Int) + dflt = (tgt : Int)) (k : V E M d b tgt ls rest h Q X) : V E M d b pc ls (vI x :: rest) h Q X := by
  intro p l e R s m args below meth c H locs cells slots mc ms arr C hS hR hL h1 h2 h3 h4 h5 h6
  exact lv_tableOut C.1 C.2.1 hdg (by rw [vI_toInt hx]; exact hq) ht (k p l e R s m args below meth c H locs cells slots mc ms arr C hS hR hL h1 h2 h3 h4 h5 h6)
theorem V_tableIn {dflt lo hi x off : Int} {offs : Array Int} {len : Nat} (tgt : Nat) (hdg : decode M.2.1 pc = .ok (.tableswitch dflt lo hi offs, len)) (hx : inr x) (h1 : lo ≤ x) (h2 : x ≤ hi) (ho : offs[(x - lo).toNat]? = some off) (ht : (pc : Int) + off = (tgt : Int)) (k : V E M d b tgt ls rest h Q X) : V E M d b pc ls (vI x :: rest) h Q X := by
  have h1' := h1
  have h2' := h2
  intro p l e R s m args below meth c H locs cells slots mc ms arr C hS hR hL h1 h2 h3 h4 h5 h6
  exact lv_tableIn C.1 C.2.1 hdg (by rw [vI_toInt hx]; exact Int.not_lt.mpr h1') (by rw [vI_toInt hx]; exact Int.not_lt.mpr h2') (by rw [vI_toInt hx]; exact ho) ht (k p l e R s m args below meth c H locs cells slots mc ms arr C hS hR hL h1 h2 h3 h4 h5 h6)
theorem V_iret {x : Int} (hdg : decode M.2.1 pc = .ok (.ireturn, 1)) (hr : M.2.2.2.1 = some .int) (hq : Q (vI x) h) : V E M d b pc ls [vI x] h Q X := by
  intro p l e R s m args below meth c H locs cells slots mc ms arr C hS hR hL h1 h2 h3 h4 h5 h6
  refine W.widen (by omega) (by omega) (vx_ret (W.iret C.1 C.2.1 (C.2.2.2.2.2.1.trans hr) (fun t ht hW => ⟨vI x, h, by rw [hr]; rfl, hq, by rw [ht]; exact hR⟩) hS.2.2 hdg C.2.2.2.2.2.2.1))
theorem V_zret {x : Int} (hdg : decode M.2.1 pc = .ok (.ireturn, 1)) (hr : M.2.2.2.1 = some .boolean) (hx : x = 0 ∨ x = 1) (hq : Q (vI x) h) : V E M d b pc ls [vI x] h Q X := by
  intro p l e R s m args below meth c H locs cells slots mc ms arr C hS hR hL h1 h2 h3 h4 h5 h6
  refine W.widen (by omega) (by omega) (vx_ret (W.zret C.1 C.2.1 (C.2.2.2.2.2.1.trans hr) (by rcases hx with rfl | rfl <;> rfl) (fun t ht hW => ⟨vI x, h, by rw [hr]; rfl, hq, by rw [ht]; exact hR⟩) hS.2.2 hdg C.2.2.2.2.2.2.1))
theorem V_vret (hdg : decode M.2.1 pc = .ok (.return_, 1)) (hr : M.2.2.2.1 = none) (hq : Q .null h) : V E M d b pc ls [] h Q X := by
  intro p l e R s m args below meth c H locs cells slots mc ms arr C hS hR hL h1 h2 h3 h4 h5 h6
  refine W.widen (by omega) (by omega) (vx_ret (W.vret C.1 C.2.1 (C.2.2.2.2.2.1.trans hr) (fun t ht hW => ⟨.null, h, by rw [hr], hq, by rw [ht]; exact hR⟩) hS.2.2 hdg C.2.2.2.2.2.2.1))
theorem V_aret {v : Value} {rt : FieldType} (hdg : decode M.2.1 pc = .ok (.areturn, 1)) (hr : M.2.2.2.1 = some rt) (hrt : rt.isReference = true) (hv : v = .null ∨ ∃ a, v = .ref a) (hq : Q v h) : V E M d b pc ls [v] h Q X := by
  intro p l e R s m args below meth c H locs cells slots mc ms arr C hS hR hL h1 h2 h3 h4 h5 h6
  refine W.widen (by omega) (by omega) (vx_ret (W.aret C.1 C.2.1 (C.2.2.2.2.2.1.trans hr) (by cases rt <;> first | exact Or.inl ⟨_, rfl⟩ | exact Or.inr ⟨_, rfl⟩ | cases hrt) hv (fun t ht hW => ⟨v, h, by rw [hr], hq, by rw [ht]; exact hR⟩) hS.2.2 hdg C.2.2.2.2.2.2.1))
end Rules1
/-- a class's facts, by its number -/
def ClsOk (ci : Nat) (C : String) (T : u_T) (N : Nat) (ty : Nat → FieldType) (df : List Value) : Prop := clA[ci]? = some (C, T, N) ∧ (∀ w ∈ u_ws C T N, w ∈ lw_all) ∧ (∀ k, k < N → parseFieldDescriptor (T k).2.2.1 = some (ty k)) ∧ (∀ a, a < N → ∀ b, b < N → a ≠ b → (T a).2.1 ≠ (T b).2.1) ∧ ∀ j, j < N → defaultValue (ty j) = vp_V df j
theorem sameF {args : Array Value} {s : State} {ref owner name desc : String} (h : (Cond.sameField ref owner name desc).before args s = true) : ∀ x, s.fieldFound? owner name desc = some x → s.fieldFound? ref name desc = some x := by
  intro x hx
  cases hr : s.fieldFound? ref name desc with
  | none =>
    simp [Cond.before, Cond.holds, Cond.value, hr] at h
  | some y =>
    obtain ⟨c, k, i, f⟩ := y
    have := Cond.sameField_spec hr h
    rw [this] at hx
    exact hx
section Rules2
variable {E : Ev} {M : Mt} {d b pc ci N idx a : Nat} {C ref host : String} {T : u_T} {ty : Nat → FieldType} {df fs : List Value} {v : Value} {ls : List (Option Value)} {rest : List Value} {h : AH} {Q : Value → AH → Prop} {X : Nat → AH → Prop}
theorem V_getf (ok : ClsOk ci C T N ty df) (k : Nat) (hdg : decode M.2.1 pc = .ok (.getfield idx, 3)) (q : Cond.fieldLink M.1.cls idx (T k).1 (T k).2.1 (T k).2.2.1 ∈ lw_all) (hk : k < N) (ha : h a = some (oO ci fs)) (hv : fs[k]? = some v) (kk : V E M d b (pc + 3) ls (v :: rest) h Q X) : V E M d b pc ls (.ref a :: rest) h Q X := by
  intro p l e R s m args below meth c H locs cells slots mc ms arr C hS hR hL h1 h2 h3 h4 h5 h6
  exact va_get C.1 C.2.1 C.2.2.2.2.1 ok.2.1 C.2.2.2.1 C.2.2.2.2.2.2.2.2.2.1.1 (hR.one ha) 0 (fs := fs) rfl ok.1 k hk (C.2.2.2.2.1 _ q) (fun _ h9 => h9) hv hdg (kk p l e R s m args below meth c H locs cells slots mc ms arr C hS hR hL h1 h2 h3 h4 h5 h6)
/-- by a subclass's name -/
theorem V_getfS (ok : ClsOk ci C T N ty df) (k : Nat) (hdg : decode M.2.1 pc = .ok (.getfield idx, 3)) (q : Cond.fieldLink M.1.cls idx ref (T k).2.1 (T k).2.2.1 ∈ lw_all) (qs : Cond.sameField ref (T k).1 (T k).2.1 (T k).2.2.1 ∈ lw_all) (hk : k < N) (ha : h a = some (oO ci fs)) (hv : fs[k]? = some v) (kk : V E M d b (pc + 3) ls (v :: rest) h Q X) : V E M d b pc ls (.ref a :: rest) h Q X := by
  intro p l e R s m args below meth c H locs cells slots mc ms arr C hS hR hL h1 h2 h3 h4 h5 h6
  exact va_get C.1 C.2.1 C.2.2.2.2.1 ok.2.1 C.2.2.2.1 C.2.2.2.2.2.2.2.2.2.1.1 (hR.one ha) 0 (fs := fs) rfl ok.1 k hk (C.2.2.2.2.1 _ q) (sameF (C.2.2.2.2.1 _ qs)) hv hdg (kk p l e R s m args below meth c H locs cells slots mc ms arr C hS hR hL h1 h2 h3 h4 h5 h6)
/-- a nest mate's -/
theorem V_getfN (ok : ClsOk ci C T N ty df) (k : Nat) (hdg : decode M.2.1 pc = .ok (.getfield idx, 3)) (q : Cond.fieldLinkNest M.1.cls idx (T k).1 (T k).2.1 (T k).2.2.1 host ∈ lw_nt) (hk : k < N) (ha : h a = some (oO ci fs)) (hv : fs[k]? = some v) (kk : V E M d b (pc + 3) ls (v :: rest) h Q X) : V E M d b pc ls (.ref a :: rest) h Q X := by
  intro p l e R s m args below meth c H locs cells slots mc ms arr C hS hR hL h1 h2 h3 h4 h5 h6
  exact va_getN C.1 C.2.1 C.2.2.2.2.1 ok.2.1 C.2.2.2.1 C.2.2.2.2.2.2.2.2.2.1.1 (hR.one ha) 0 (fs := fs) rfl ok.1 k hk (va_Nw.use rfl (C.2.2.2.2.2.2.2.2.2.1.2.1 _ q rfl)) (fun _ h9 => h9) hv hdg (kk p l e R s m args below meth c H locs cells slots mc ms arr C hS hR hL h1 h2 h3 h4 h5 h6)
theorem V_putf (ok : ClsOk ci C T N ty df) (k : Nat) (hdg : decode M.2.1 pc = .ok (.putfield idx, 3)) (q : Cond.fieldLink M.1.cls idx (T k).1 (T k).2.1 (T k).2.2.1 ∈ lw_all) (hk : k < N) (hfin : (T k).2.2.2 = false) (ha : h a = some (oO ci fs)) (hci : ci < 32) (hl : k < fs.length) (hn : narrow (ty k) v = v) (hfit : fits (ty k) v = true) (kk : V E M d b (pc + 3) ls rest (hset h a (oO ci (fs.set k v))) Q X) : V E M d b pc ls (v :: .ref a :: rest) h Q X := by
  intro p l e R s m args below meth c H locs cells slots mc ms arr C hS hR hL h1 h2 h3 h4 h5 h6
  obtain ⟨ws, k0, e0, hP, hD, hb⟩ := hR.put (c' := .inr (ci, fs.set k v)) ha hci hci
  exact va_put C.1 C.2.1 C.2.2.2.2.1 ok.2.1 ty ok.2.2.1 ok.2.2.2.1 C.2.2.2.1 C.2.2.2.2.2.2.2.2.2.1.1 hP hD hS k0 (fs := fs) e0 ok.1 k hk (C.2.2.2.2.1 _ q) (fun _ h9 => h9) hfin (ok.2.2.1 k hk) hn hfit hl hdg (fun H1 locs1 hP1 _ hS1 => kk p l e R s m args below meth c H1 locs1 cells slots mc ms arr C hS1 (hb H1 locs1 hP1 hS1) hL h1 h2 h3 h4 h5 h6)
theorem V_putF (ok : ClsOk ci C T N ty df) (k : Nat) (hdg : decode M.2.1 pc = .ok (.putfield idx, 3)) (q : Cond.fieldLink M.1.cls idx (T k).1 (T k).2.1 (T k).2.2.1 ∈ lw_all) (hk : k < N) (hfin : (T k).2.2.2 = true) (hin2 : M.1.name = "<init>") (hdecl : (T k).1 = M.1.cls) (ha : h a = some (oO ci fs)) (hci : ci < 32) (hl : k < fs.length) (hn : narrow (ty k) v = v) (hfit : fits (ty k) v = true) (kk : V E M d b (pc + 3) ls rest (hset h a (oO ci (fs.set k v))) Q X) : V E M d b pc ls (v :: .ref a :: rest) h Q X := by
  intro p l e R s m args below meth c H locs cells slots mc ms arr C hS hR hL h1 h2 h3 h4 h5 h6
  obtain ⟨ws, k0, e0, hP, hD, hb⟩ := hR.put (c' := .inr (ci, fs.set k v)) ha hci hci
  exact va_putF C.1 C.2.1 C.2.2.2.2.1 ok.2.1 ty ok.2.2.1 ok.2.2.2.1 C.2.2.2.1 C.2.2.2.2.2.2.2.2.2.1.1 hP hD hS k0 (fs := fs) e0 ok.1 k hk (C.2.2.2.2.1 _ q) (fun _ h9 => h9) hfin (C.2.2.2.2.2.2.2.1.trans hin2) hdecl (ok.2.2.1 k hk) hn hfit hl hdg (fun H1 locs1 hP1 _ hS1 => kk p l e R s m args below meth c H1 locs1 cells slots mc ms arr C hS1 (hb H1 locs1 hP1 hS1) hL h1 h2 h3 h4 h5 h6)
theorem V_putN (ok : ClsOk ci C T N ty df) (k : Nat) (hdg : decode M.2.1 pc = .ok (.putfield idx, 3)) (q : Cond.fieldLinkNest M.1.cls idx (T k).1 (T k).2.1 (T k).2.2.1 host ∈ lw_nt) (hk : k < N) (hfin : (T k).2.2.2 = false) (ha : h a = some (oO ci fs)) (hci : ci < 32) (hl : k < fs.length) (hn : narrow (ty k) v = v) (hfit : fits (ty k) v = true) (kk : V E M d b (pc + 3) ls rest (hset h a (oO ci (fs.set k v))) Q X) : V E M d b pc ls (v :: .ref a :: rest) h Q X := by
  intro p l e R s m args below meth c H locs cells slots mc ms arr C hS hR hL h1 h2 h3 h4 h5 h6
  obtain ⟨ws, k0, e0, hP, hD, hb⟩ := hR.put (c' := .inr (ci, fs.set k v)) ha hci hci
  exact va_putN C.1 C.2.1 C.2.2.2.2.1 ok.2.1 ty ok.2.2.1 ok.2.2.2.1 C.2.2.2.1 C.2.2.2.2.2.2.2.2.2.1.1 hP hD hS k0 (fs := fs) e0 ok.1 k hk (va_Nw.use rfl (C.2.2.2.2.2.2.2.2.2.1.2.1 _ q rfl)) (fun _ h9 => h9) hfin (ok.2.2.1 k hk) hn hfit hl hdg (fun H1 locs1 hP1 _ hS1 => kk p l e R s m args below meth c H1 locs1 cells slots mc ms arr C hS1 (hb H1 locs1 hP1 hS1) hL h1 h2 h3 h4 h5 h6)
theorem V_new (ok : ClsOk ci C T N ty df) (hdg : decode M.2.1 pc = .ok (.new idx, 3)) (q1 : Cond.classLink M.1.cls idx C ∈ lw_all) (q2 : Cond.instantiable C N ∈ lw_all) (q3 : Cond.initialized C ∈ lw_all) (hci : ci < 32) (hb : N + 1 ≤ b) (kk : ∀ a : Nat, h a = none → V E M d (b - (N + 1)) (pc + 3) ls (.ref a :: rest) (hset h a (oO ci df)) Q X) : V E M d b pc ls rest h Q X := by
  intro p l e R s m args below meth c H locs cells slots mc ms arr C hS hR hL h1 h2 h3 h4 h5 h6
  obtain ⟨ws, hP, hD, hb9⟩ := hR.new
  exact va_new C.1 C.2.1 C.2.2.2.2.1 ok.2.1 ty ok.2.2.1 C.2.2.2.1 (C.2.2.2.2.1 _ q1) (C.2.2.2.2.1 _ q2) (C.2.2.2.2.1 _ q3) C.2.2.2.2.2.2.2.2.2.1.1 hP hD hS (fun _ h => h) ok.1 ok.2.2.2.2 (by omega) (by omega) hdg (fun q H1 hP1 hD1 hS1 => by
    obtain ⟨hn, hR1⟩ := hb9 q (.inr (ci, df)) H1 locs hci hP1 hD1 hS1
    exact kk q hn p l e R s m args below meth c H1 locs (cells + 1) (slots + N) mc ms arr C hS1 hR1 hL h1 h2 (by omega) (by omega) h5 h6)
end Rules2
theorem tysA_at {E : Ev} {k : Nat} {ty : FieldType} (h : kA[k]? = some ty) : (tysA E)[k]? = some (E.2.1 k, ty) := by
  unfold tysA
  rw [List.getElem?_map, List.getElem?_zipIdx, h]
  simp
/-- an array's contents, with one place written -/
def aup {α : Type} (f : Int → α) (i : Int) (x : α) : Int → α := fun j => if j = i then x else f j
theorem aup_upd {f : Int → Int} {i x : Int} (h0 : 0 ≤ i) (h1 : i ≤ 2147483647) : upd (fun j : Nat => Int32.ofInt (f j)) (Int32.ofInt i).toNatClampNeg (Int32.ofInt x) = fun j : Nat => Int32.ofInt (aup f i x j) := by
  funext j
  rw [vI_clamp h0 h1]
  unfold upd aup
  by_cases hj : j = i.toNat
  · rw [if_pos hj, if_pos (by omega)]
  · rw [if_neg hj, if_neg (by omega)]
theorem aup_up {g : Int → Option Nat} {i : Int} {x : Option Nat} (h0 : 0 ≤ i) (h1 : i ≤ 2147483647) : va_up (fun j : Nat => g j) (Int32.ofInt i).toNatClampNeg x = fun j : Nat => aup g i x j := by
  funext j
  rw [vI_clamp h0 h1]
  unfold va_up aup
  by_cases hj : j = i.toNat
  · rw [if_pos hj, if_pos (by omega)]
  · rw [if_neg hj, if_neg (by omega)]
theorem nar_b {x : Int} (h : -128 ≤ x ∧ x ≤ 127) : vp_nar .byte (Int32.ofInt x) = Int32.ofInt x := by
  rw [vp_nar_byte]
  apply Int32.toInt_inj.mp
  rw [Int8.toInt_toInt32, Int32.toInt_toInt8, vI_toInt ⟨by omega, by omega⟩]
  exact Int.bmod_eq_of_le (by omega) (by omega)
theorem nar_z {x : Int} (h : x = 0 ∨ x = 1) : vp_nar .boolean (Int32.ofInt x) = Int32.ofInt x := by
  rcases h with rfl | rfl <;> rfl
section Rules3
variable {E : Ev} {M : Mt} {d b pc n kk a : Nat} {f : Int → Int} {g : Int → Option Nat} {i : Int} {ls : List (Option Value)} {rest : List Value} {h : AH} {Q : Value → AH → Prop} {X : Nat → AH → Prop}
theorem V_iald (hdg : decode M.2.1 pc = .ok (.iaload, 1)) (ha : h a = some (oA kk n f)) (hk : kA[kk]? = some .int) (h0 : 0 ≤ i) (h1 : i < n) (hn : (n : Int) ≤ 2147483647) (k : V E M d b (pc + 1) ls (vI (f i) :: rest) h Q X) : V E M d b pc ls (vI i :: .ref a :: rest) h Q X := by
  have h0' := h0
  have h1' := h1
  intro p l e R s m args below meth c H locs cells slots mc ms arr C hS hR hL h1 h2 h3 h4 h5 h6
  refine va_iald C.1 C.2.1 C.2.2.2.2.2.2.2.2.2.1.1 (hR.one ha) 0 kk (n := n) (f := fun j : Nat => Int32.ofInt (f j)) rfl (tysA_at hk) (vI_in h0' h1' hn) hdg ?_
  rw [vI_clamp h0' (by omega), show ((i.toNat : Nat) : Int) = i by omega]
  exact k p l e R s m args below meth c H locs cells slots mc ms arr C hS hR hL h1 h2 h3 h4 h5 h6
theorem V_bald (hdg : decode M.2.1 pc = .ok (.baload, 1)) (ha : h a = some (oA kk n f)) (hk : kA[kk]? = some .byte) (h0 : 0 ≤ i) (h1 : i < n) (hn : (n : Int) ≤ 2147483647) (k : V E M d b (pc + 1) ls (vI (f i) :: rest) h Q X) : V E M d b pc ls (vI i :: .ref a :: rest) h Q X := by
  have h0' := h0
  have h1' := h1
  intro p l e R s m args below meth c H locs cells slots mc ms arr C hS hR hL h1 h2 h3 h4 h5 h6
  refine va_bald C.1 C.2.1 C.2.2.2.2.2.2.2.2.2.1.1 (hR.one ha) 0 kk (n := n) (f := fun j : Nat => Int32.ofInt (f j)) rfl (tysA_at hk) (vI_in h0' h1' hn) hdg ?_
  rw [vI_clamp h0' (by omega), show ((i.toNat : Nat) : Int) = i by omega]
  exact k p l e R s m args below meth c H locs cells slots mc ms arr C hS hR hL h1 h2 h3 h4 h5 h6
theorem V_zald (hdg : decode M.2.1 pc = .ok (.baload, 1)) (ha : h a = some (oA kk n f)) (hk : kA[kk]? = some .boolean) (h0 : 0 ≤ i) (h1 : i < n) (hn : (n : Int) ≤ 2147483647) (k : V E M d b (pc + 1) ls (vI (f i) :: rest) h Q X) : V E M d b pc ls (vI i :: .ref a :: rest) h Q X := by
  have h0' := h0
  have h1' := h1
  intro p l e R s m args below meth c H locs cells slots mc ms arr C hS hR hL h1 h2 h3 h4 h5 h6
  refine va_zald C.1 C.2.1 C.2.2.2.2.2.2.2.2.2.1.1 (hR.one ha) 0 kk (n := n) (f := fun j : Nat => Int32.ofInt (f j)) rfl (tysA_at hk) (vI_in h0' h1' hn) hdg ?_
  rw [vI_clamp h0' (by omega), show ((i.toNat : Nat) : Int) = i by omega]
  exact k p l e R s m args below meth c H locs cells slots mc ms arr C hS hR hL h1 h2 h3 h4 h5 h6
theorem V_iast {x : Int} (hdg : decode M.2.1 pc = .ok (.iastore, 1)) (ha : h a = some (oA kk n f)) (hk : kA[kk]? = some .int) (hw : kk < 10) (h0 : 0 ≤ i) (h1 : i < n) (hn : (n : Int) ≤ 2147483647) (k : V E M d b (pc + 1) ls rest (hset h a (oA kk n (aup f i x))) Q X) : V E M d b pc ls (vI x :: vI i :: .ref a :: rest) h Q X := by
  have h0' := h0
  have h1' := h1
  intro p l e R s m args below meth c H locs cells slots mc ms arr C hS hR hL h1 h2 h3 h4 h5 h6
  obtain ⟨ws, k0, e0, hP, hD, hb⟩ := hR.put (c' := .inl (kk, n, .inl (aup f i x))) ha hw hw
  refine va_iast C.1 C.2.1 C.2.2.2.2.2.2.2.2.2.1.1 hP hD hS k0 kk (n := n) (f := fun j : Nat => Int32.ofInt (f j)) e0 (tysA_at hk) (vI_in h0' h1' hn) hdg (fun H1 locs1 hP1 _ hS1 => ?_)
  rw [aup_upd h0' (by omega)] at hP1
  exact k p l e R s m args below meth c H1 locs1 cells slots mc ms arr C hS1 (hb H1 locs1 hP1 hS1) hL h1 h2 h3 h4 h5 h6
theorem V_bast {x : Int} (hdg : decode M.2.1 pc = .ok (.bastore, 1)) (ha : h a = some (oA kk n f)) (hk : kA[kk]? = some .byte) (hw : kk < 10) (hx : -128 ≤ x ∧ x ≤ 127) (h0 : 0 ≤ i) (h1 : i < n) (hn : (n : Int) ≤ 2147483647) (k : V E M d b (pc + 1) ls rest (hset h a (oA kk n (aup f i x))) Q X) : V E M d b pc ls (vI x :: vI i :: .ref a :: rest) h Q X := by
  have h0' := h0
  have h1' := h1
  intro p l e R s m args below meth c H locs cells slots mc ms arr C hS hR hL h1 h2 h3 h4 h5 h6
  obtain ⟨ws, k0, e0, hP, hD, hb⟩ := hR.put (c' := .inl (kk, n, .inl (aup f i x))) ha hw hw
  refine va_bast C.1 C.2.1 C.2.2.2.2.2.2.2.2.2.1.1 hP hD hS k0 kk (n := n) (f := fun j : Nat => Int32.ofInt (f j)) e0 (tysA_at hk) (vI_in h0' h1' hn) hdg (fun H1 locs1 hP1 _ hS1 => ?_)
  rw [nar_b hx, aup_upd h0' (by omega)] at hP1
  exact k p l e R s m args below meth c H1 locs1 cells slots mc ms arr C hS1 (hb H1 locs1 hP1 hS1) hL h1 h2 h3 h4 h5 h6
theorem V_zast {x : Int} (hdg : decode M.2.1 pc = .ok (.bastore, 1)) (ha : h a = some (oA kk n f)) (hk : kA[kk]? = some .boolean) (hw : kk < 10) (hx : x = 0 ∨ x = 1) (h0 : 0 ≤ i) (h1 : i < n) (hn : (n : Int) ≤ 2147483647) (k : V E M d b (pc + 1) ls rest (hset h a (oA kk n (aup f i x))) Q X) : V E M d b pc ls (vI x :: vI i :: .ref a :: rest) h Q X := by
  have h0' := h0
  have h1' := h1
  intro p l e R s m args below meth c H locs cells slots mc ms arr C hS hR hL h1 h2 h3 h4 h5 h6
  obtain ⟨ws, k0, e0, hP, hD, hb⟩ := hR.put (c' := .inl (kk, n, .inl (aup f i x))) ha hw hw
  refine va_zast C.1 C.2.1 C.2.2.2.2.2.2.2.2.2.1.1 hP hD hS k0 kk (n := n) (f := fun j : Nat => Int32.ofInt (f j)) e0 (tysA_at hk) (vI_in h0' h1' hn) hdg (fun H1 locs1 hP1 _ hS1 => ?_)
  rw [nar_z hx, aup_upd h0' (by omega)] at hP1
  exact k p l e R s m args below meth c H1 locs1 cells slots mc ms arr C hS1 (hb H1 locs1 hP1 hS1) hL h1 h2 h3 h4 h5 h6
theorem V_aald {T : String} (hdg : decode M.2.1 pc = .ok (.aaload, 1)) (ha : h a = some (oR kk n g)) (hk : kA[kk]? = some (.object T)) (h0 : 0 ≤ i) (h1 : i < n) (hn : (n : Int) ≤ 2147483647) (k : V E M d b (pc + 1) ls (va_rf (g i) :: rest) h Q X) : V E M d b pc ls (vI i :: .ref a :: rest) h Q X := by
  have h0' := h0
  have h1' := h1
  intro p l e R s m args below meth c H locs cells slots mc ms arr C hS hR hL h1 h2 h3 h4 h5 h6
  refine va_aldq C.1 C.2.1 C.2.2.2.2.2.2.2.2.2.1.1 (hR.one ha) 0 kk (n := n) (f := fun j : Nat => g j) rfl (tysA_at hk) (vI_in h0' h1' hn) hdg ?_
  rw [vI_clamp h0' (by omega), show ((i.toNat : Nat) : Int) = i by omega]
  exact k p l e R s m args below meth c H locs cells slots mc ms arr C hS hR hL h1 h2 h3 h4 h5 h6
theorem V_aaldA {T : FieldType} (hdg : decode M.2.1 pc = .ok (.aaload, 1)) (ha : h a = some (oR kk n g)) (hk : kA[kk]? = some (.array T)) (h0 : 0 ≤ i) (h1 : i < n) (hn : (n : Int) ≤ 2147483647) (k : V E M d b (pc + 1) ls (va_rf (g i) :: rest) h Q X) : V E M d b pc ls (vI i :: .ref a :: rest) h Q X := by
  have h0' := h0
  have h1' := h1
  intro p l e R s m args below meth c H locs cells slots mc ms arr C hS hR hL h1 h2 h3 h4 h5 h6
  have hin := vI_in h0' h1' hn
  have hlt : (Int32.ofInt i).toNatClampNeg < n := Nat.not_le.mp fun q => hin (Or.inr q)
  refine W.aald (v := va_rf (g i)) (ty := .array T) C.1 C.2.1 ((hR.one ha) 0 _ rfl) ((C.2.2.2.2.2.2.2.2.2.1.1.2 kk _ (tysA_at hk)).1 n (fun j => va_rf (g j))) rfl (fun q => by cases q) (by show ¬ (_ ∨ (arrV _ _ _).slots.size ≤ _); rw [arrV_size]; exact hin) ?_ rfl rfl hdg (k p l e R s m args below meth c H locs cells slots mc ms arr C hS hR hL h1 h2 h3 h4 h5 h6)
  show (arrV _ _ _).slots[_]? = _
  rw [arrV_read _ _ hlt, vI_clamp h0' (by omega)]
  dsimp only
  rw [show ((i.toNat : Nat) : Int) = i by omega]
theorem V_alen (hdg : decode M.2.1 pc = .ok (.arraylength, 1)) (ha : h a = some (oA kk n f)) {ty : FieldType} (hk : kA[kk]? = some ty) (k : V E M d b (pc + 1) ls (vI n :: rest) h Q X) : V E M d b pc ls (.ref a :: rest) h Q X := by
  intro p l e R s m args below meth c H locs cells slots mc ms arr C hS hR hL h1 h2 h3 h4 h5 h6
  exact va_alen C.1 C.2.1 C.2.2.2.2.2.2.2.2.2.1.1 (hR.one ha) 0 kk (x := (n, .inl (fun j : Nat => Int32.ofInt (f j)))) rfl (tysA_at hk) (v := Int32.ofInt n) rfl hdg (k p l e R s m args below meth c H locs cells slots mc ms arr C hS hR hL h1 h2 h3 h4 h5 h6)
theorem V_alenR (hdg : decode M.2.1 pc = .ok (.arraylength, 1)) (ha : h a = some (oR kk n g)) {ty : FieldType} (hk : kA[kk]? = some ty) (k : V E M d b (pc + 1) ls (vI n :: rest) h Q X) : V E M d b pc ls (.ref a :: rest) h Q X := by
  intro p l e R s m args below meth c H locs cells slots mc ms arr C hS hR hL h1 h2 h3 h4 h5 h6
  exact va_alen C.1 C.2.1 C.2.2.2.2.2.2.2.2.2.1.1 (hR.one ha) 0 kk (x := (n, .inr (.inr (.inr (.inr (fun j : Nat => g j)))))) rfl (tysA_at hk) (v := Int32.ofInt n) rfl hdg (k p l e R s m args below meth c H locs cells slots mc ms arr C hS hR hL h1 h2 h3 h4 h5 h6)
/-- a reference into an array: the class of what is stored may be cast to the array's -/
theorem V_aast {T CV : String} {TV : u_T} {NV v ci : Nat} {vs : List Value} (hdg : decode M.2.1 pc = .ok (.aastore, 1)) (ha : h a = some (oR kk n g)) (hk : kA[kk]? = some (.object T)) (hw : kk < 10) (hv : h v = some (oO ci vs)) (hc : clA[ci]? = some (CV, TV, NV)) (hca : CV = T ∨ Cond.castable CV T ∈ lw_nt) (h0 : 0 ≤ i) (h1 : i < n) (hn : (n : Int) ≤ 2147483647) (k : V E M d b (pc + 1) ls rest (hset h a (oR kk n (aup g i (some v)))) Q X) : V E M d b pc ls (.ref v :: vI i :: .ref a :: rest) h Q X := by
  have h0' := h0
  have h1' := h1
  intro p l e R s m args below meth c H locs cells slots mc ms arr C hS hR hL h1 h2 h3 h4 h5 h6
  obtain ⟨ws, k0, e0, hP, hD, hb⟩ := hR.put (c' := .inl (kk, n, .inr (aup g i (some v)))) ha hw hw
  have hin := vI_in h0' h1' hn
  have hlt : (Int32.ofInt i).toNatClampNeg < n := Nat.not_le.mp fun q => hin (Or.inr q)
  have h00 : ¬ (Int32.ofInt i) < 0 := fun q => hin (Or.inl q)
  obtain ⟨r', hr', cellV, g1, g2, g3, -⟩ := (hR.one hv) 0 _ rfl
  have hcls := (C.2.2.2.2.2.2.2.2.2.1.1.1 ci _ hc).2
  obtain ⟨kA', comp, k1, k2, k3, -⟩ := (C.2.2.2.2.2.2.2.2.2.1.1.2 kk _ (tysA_at hk)).2
  obtain ⟨kE, hkE, -⟩ := Vm.findClass_spec k3
  have f3 : s.vm.assignable (E.1.1 ci) comp = true := by
    rcases hca with rfl | hca
    · have hcomp : comp = E.1.1 ci := Option.some.inj (k3.symm.trans hcls.1)
      rw [hcomp]
      exact va_assign hcls
    · obtain ⟨c0, t1, f1, f2, f3⟩ := Cond.castable_spec (va_Nw.use (A := args) rfl (C.2.2.2.2.2.2.2.2.2.1.2.1 _ hca rfl))
      cases hcls.1.symm.trans f1
      cases k3.symm.trans f2
      exact f3
  obtain ⟨kC, hkC, -⟩ := hcls.2
  refine W.aast C.1 C.2.1 (hP k0 _ e0) (fun q h => by cases h) (fun h => by cases h) k1 k2 rfl hkE ⟨h00, by show _ < (arrV _ _ _).slots.size; rw [arrV_size]; exact hlt⟩ g1 (fun q h => by rw [g3] at h; cases h) (by rw [g2]; exact hkC) (by rw [g2]; exact f3) rfl rfl hdg fun H1 e7 z oq => ?_
  have hP1 := hP.set hD e0 (e := cvP E (.inl (kk, n, .inr (aup g i (some v))))) (by
    show H1[a]? = some (vp_cell _ _)
    rw [e7]
    rw [vp_cell_q, vp_cell_q, arrV_store]
    congr 2
    funext q
    have e9 := congrFun (aup_up (g := g) (x := some v) h0' (by omega)) q
    rw [← e9]
    by_cases hq : q = (Int32.ofInt i).toNatClampNeg
    · subst hq
      simp [updV, va_up, va_rf]
    · simp [updV, va_up, hq]) oq
  have hS1 := hS.put z oq (hD.2 k0 _ e0) (k := (Int32.ofInt i).toNatClampNeg)
  exact k p l e R s m args below meth c H1 (locs ++ [⟨a, (Int32.ofInt i).toNatClampNeg⟩]) cells slots mc ms arr C hS1 (hb H1 _ hP1 hS1) hL h1 h2 h3 h4 h5 h6
theorem V_aastN {T : String} (hdg : decode M.2.1 pc = .ok (.aastore, 1)) (ha : h a = some (oR kk n g)) (hk : kA[kk]? = some (.object T)) (hw : kk < 10) (h0 : 0 ≤ i) (h1 : i < n) (hn : (n : Int) ≤ 2147483647) (k : V E M d b (pc + 1) ls rest (hset h a (oR kk n (aup g i none))) Q X) : V E M d b pc ls (.null :: vI i :: .ref a :: rest) h Q X := by
  have h0' := h0
  have h1' := h1
  intro p l e R s m args below meth c H locs cells slots mc ms arr C hS hR hL h1 h2 h3 h4 h5 h6
  obtain ⟨ws, k0, e0, hP, hD, hb⟩ := hR.put (c' := .inl (kk, n, .inr (aup g i none))) ha hw hw
  refine va_astqN C.1 C.2.1 C.2.2.2.2.2.2.2.2.2.1.1 hP hD hS k0 kk (n := n) (f := fun j : Nat => g j) e0 (tysA_at hk) (vI_in h0' h1' hn) hdg (fun H1 locs1 hP1 _ hS1 => ?_)
  rw [aup_up h0' (by omega)] at hP1
  exact k p l e R s m args below meth c H1 locs1 cells slots mc ms arr C hS1 (hb H1 locs1 hP1 hS1) hL h1 h2 h3 h4 h5 h6
theorem V_newaI (hdg : decode M.2.1 pc = .ok (.newarray .int, 2)) (h0 : 0 ≤ i) (h1 : i ≤ 100000) (hb : i.toNat + 1 ≤ b) (k : ∀ a : Nat, h a = none → V E M d (b - (i.toNat + 1)) (pc + 2) ls (.ref a :: rest) (hset h a (oA 0 i.toNat (fun _ => 0))) Q X) : V E M d b pc ls (vI i :: rest) h Q X := by
  have h0' := h0
  have h1' := h1
  intro p l e R s m args below meth c H locs cells slots mc ms arr C hS hR hL h1 h2 h3 h4 h5 h6
  obtain ⟨ws, hP, hD, hb9⟩ := hR.new
  have e1 : (Int32.ofInt i).toNatClampNeg = i.toNat := vI_clamp h0' (by omega)
  refine va_newa (atype := .int) (ty := .int) C.1 C.2.1 (C.2.2.2.2.1 _ q309) rfl C.2.2.2.2.2.2.2.2.2.1.1 hP hD hS (fun _ h => h) (N' := i.toNat) (a0 := (i.toNat, .inl (fun j : Nat => Int32.ofInt ((fun _ => 0 : Int → Int) j)))) (fun cA => rfl) (by rw [show (0 : Int32) = Int32.ofInt 0 from rfl, vI_lt ⟨by omega, by omega⟩ (by decide)]; omega) e1 (by show i.toNat * _ ≤ _; simp [componentBytes]; omega) (by omega) (by omega) hdg (fun q cA H1 hK1 hP1 hD1 hS1 => ?_)
  have hcA : cA = E.2.1 0 := by
    have f1 := (hK1.2 (tysA E).length (cA, .int) (by simp)).2
    have f2 := (C.2.2.2.2.2.2.2.2.2.1.1.2 0 _ (tysA_at (E := E) (k := 0) (ty := .int) rfl)).2
    exact Option.some.inj (f1.symm.trans f2)
  subst hcA
  obtain ⟨hn, hR1⟩ := hb9 q (.inl (0, i.toNat, .inl (fun _ => 0))) H1 locs (by show (0 : Nat) < 10; decide) hP1 hD1 hS1
  exact k q hn p l e R s m args below meth c H1 locs (cells + 1) (slots + i.toNat) mc ms arr C hS1 hR1 hL h1 h2 (by omega) (by omega) h5 h6
theorem V_newaB (hdg : decode M.2.1 pc = .ok (.newarray .byte, 2)) (h0 : 0 ≤ i) (h1 : i ≤ 100000) (hb : i.toNat + 1 ≤ b) (k : ∀ a : Nat, h a = none → V E M d (b - (i.toNat + 1)) (pc + 2) ls (.ref a :: rest) (hset h a (oA 1 i.toNat (fun _ => 0))) Q X) : V E M d b pc ls (vI i :: rest) h Q X := by
  have h0' := h0
  have h1' := h1
  intro p l e R s m args below meth c H locs cells slots mc ms arr C hS hR hL h1 h2 h3 h4 h5 h6
  obtain ⟨ws, hP, hD, hb9⟩ := hR.new
  have e1 : (Int32.ofInt i).toNatClampNeg = i.toNat := vI_clamp h0' (by omega)
  refine va_newa (atype := .byte) (ty := .byte) C.1 C.2.1 (C.2.2.2.2.1 _ q1110) rfl C.2.2.2.2.2.2.2.2.2.1.1 hP hD hS (fun _ h => h) (N' := i.toNat) (a0 := (i.toNat, .inl (fun j : Nat => Int32.ofInt ((fun _ => 0 : Int → Int) j)))) (fun cA => rfl) (by rw [show (0 : Int32) = Int32.ofInt 0 from rfl, vI_lt ⟨by omega, by omega⟩ (by decide)]; omega) e1 (by show i.toNat * _ ≤ _; simp [componentBytes]; omega) (by omega) (by omega) hdg (fun q cA H1 hK1 hP1 hD1 hS1 => ?_)
  have hcA : cA = E.2.1 1 := by
    have f1 := (hK1.2 (tysA E).length (cA, .byte) (by simp)).2
    have f2 := (C.2.2.2.2.2.2.2.2.2.1.1.2 1 _ (tysA_at (E := E) (k := 1) (ty := .byte) rfl)).2
    exact Option.some.inj (f1.symm.trans f2)
  subst hcA
  obtain ⟨hn, hR1⟩ := hb9 q (.inl (1, i.toNat, .inl (fun _ => 0))) H1 locs (by show (1 : Nat) < 10; decide) hP1 hD1 hS1
  exact k q hn p l e R s m args below meth c H1 locs (cells + 1) (slots + i.toNat) mc ms arr C hS1 hR1 hL h1 h2 (by omega) (by omega) h5 h6
theorem V_newaZ (hdg : decode M.2.1 pc = .ok (.newarray .boolean, 2)) (h0 : 0 ≤ i) (h1 : i ≤ 100000) (hb : i.toNat + 1 ≤ b) (k : ∀ a : Nat, h a = none → V E M d (b - (i.toNat + 1)) (pc + 2) ls (.ref a :: rest) (hset h a (oA 2 i.toNat (fun _ => 0))) Q X) : V E M d b pc ls (vI i :: rest) h Q X := by
  have h0' := h0
  have h1' := h1
  intro p l e R s m args below meth c H locs cells slots mc ms arr C hS hR hL h1 h2 h3 h4 h5 h6
  obtain ⟨ws, hP, hD, hb9⟩ := hR.new
  have e1 : (Int32.ofInt i).toNatClampNeg = i.toNat := vI_clamp h0' (by omega)
  refine va_newa (atype := .boolean) (ty := .boolean) C.1 C.2.1 (C.2.2.2.2.1 _ q2757) rfl C.2.2.2.2.2.2.2.2.2.1.1 hP hD hS (fun _ h => h) (N' := i.toNat) (a0 := (i.toNat, .inl (fun j : Nat => Int32.ofInt ((fun _ => 0 : Int → Int) j)))) (fun cA => rfl) (by rw [show (0 : Int32) = Int32.ofInt 0 from rfl, vI_lt ⟨by omega, by omega⟩ (by decide)]; omega) e1 (by show i.toNat * _ ≤ _; simp [componentBytes]; omega) (by omega) (by omega) hdg (fun q cA H1 hK1 hP1 hD1 hS1 => ?_)
  have hcA : cA = E.2.1 2 := by
    have f1 := (hK1.2 (tysA E).length (cA, .boolean) (by simp)).2
    have f2 := (C.2.2.2.2.2.2.2.2.2.1.1.2 2 _ (tysA_at (E := E) (k := 2) (ty := .boolean) rfl)).2
    exact Option.some.inj (f1.symm.trans f2)
  subst hcA
  obtain ⟨hn, hR1⟩ := hb9 q (.inl (2, i.toNat, .inl (fun _ => 0))) H1 locs (by show (2 : Nat) < 10; decide) hP1 hD1 hS1
  exact k q hn p l e R s m args below meth c H1 locs (cells + 1) (slots + i.toNat) mc ms arr C hS1 hR1 hL h1 h2 (by omega) (by omega) h5 h6
end Rules3
