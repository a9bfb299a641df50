/-! FOUNDATION 11: forgetting, equal heaps, cells apart, values that may be null, constants -/
theorem Rel.drop {E : Ev} {h h' : AH} {H : Heap} (R : Rel E h' H) (hs : ∀ q c, h q = some c → h' q = some c) : Rel E h H := by
  obtain ⟨hG, p, own, h1, h2, h3⟩ := R
  exact ⟨hG, p, own, h1, fun a c ha => h2 a c (hs a _ ha), fun a Φ ha => h3 a Φ (hs a _ ha)⟩
theorem hset_hset {h : AH} {a : Nat} {c c' : Ao} : hset (hset h a c) a c' = hset h a c' := by
  funext q
  unfold hset
  by_cases e : q = a
  · rw [if_pos e, if_pos e]
  · rw [if_neg e, if_neg e, if_neg e]
theorem hset_in {h h' : AH} {a b : Nat} {c d : Ao} (n : a ≠ b) (e : hset h a c = h') : hset (hset h b d) a c = hset h' b d := by
  subst e
  funext q
  unfold hset
  by_cases e1 : q = a
  · subst e1; rw [if_pos rfl, if_neg n, if_pos rfl]
  · by_cases e2 : q = b
    · rw [if_neg e1, if_pos e2, if_pos e2]
    · rw [if_neg e1, if_neg e2, if_neg e2, if_neg e1]
theorem hset_same {h : AH} {a : Nat} {c : Ao} (e : h a = some c) : hset h a c = h := by
  funext q
  unfold hset
  by_cases e1 : q = a
  · rw [if_pos e1, e1, e]
  · rw [if_neg e1]
theorem hset_old {h : AH} {a q : Nat} {c d : Ao} (n : h a = none) (e : h q = some d) : hset h a c q = some d := by
  rw [hset_ne (fun z => by rw [z, n] at e; cases e)]; exact e
/-- the kind of a cell: objects by their class, arrays -/
def tagA : Ao → Nat
  | .inl (.inr o) => o.1 + 2
  | .inl (.inl (_, _, .inl _)) => 0
  | .inl (.inl (_, _, .inr _)) => 1
  | .inr Φ => Φ.1 + 2
theorem ne_t {h : AH} {a b : Nat} {c d : Ao} (ea : h a = some c) (eb : h b = some d) (n : Nat.beq (tagA c) (tagA d) = false) : a ≠ b := by
  rintro rfl
  rw [ea] at eb
  cases eb
  rw [Nat.beq_refl] at n
  cases n
theorem ne_f {h : AH} {a b : Nat} {c : Ao} (ea : h a = some c) (eb : h b = none) : a ≠ b := by
  rintro rfl
  rw [ea] at eb
  cases eb
theorem ne_g {h : AH} {a b : Nat} {c : Ao} (ea : h a = none) (eb : h b = some c) : a ≠ b := fun e => ne_f eb ea e.symm
/-- a reference or null -/
def isR (v : Value) : Prop := ∃ r : Option Nat, v = va_rf r
theorem isR.cat {v : Value} (h : isR v) : v.category = 1 := by
  obtain ⟨r, rfl⟩ := h
  cases r <;> rfl
theorem isR.rf {r : Option Nat} : isR (va_rf r) := ⟨r, rfl⟩
theorem isR.rr {a : Nat} : isR (.ref a) := ⟨some a, rfl⟩
theorem isR.nn : isR .null := ⟨none, rfl⟩
section Rules11
variable {E : Ev} {M M' : Mt} {d b pc idx a : Nat} {ls : List (Option Value)} {rest st : List Value} {h : AH} {Q : Value → AH → Prop} {X : Nat → AH → Prop}
/-- cells are forgotten -/
theorem V_drop {h' : AH} (hs : ∀ q c, h q = some c → h' q = some c) (k : V E M d b pc ls st h Q X) : V E M d b pc ls st h' Q X := by
  intro p l e R s m args below meth c H locs cells slots mc ms arr C hS hR hL h1 h2 h3 h4 h5 h6
  exact k p l e R s m args below meth c H locs cells slots mc ms arr C hS (hR.drop hs) hL h1 h2 h3 h4 h5 h6
theorem V_heq {h' : AH} (e : h' = h) (k : V E M d b pc ls st h Q X) : V E M d b pc ls st h' Q X := by rw [e]; exact k
theorem V_aloadG {j : Nat} {v : Value} (hdg : decode M.2.1 pc = .ok (.aload j, 2)) (hv : isR v) (hl : ls[j]? = some (some v)) (k : V E M d b (pc + 2) ls (v :: rest) h Q X) : V E M d b pc ls rest h Q X := by
  obtain ⟨r, rfl⟩ := hv
  cases r with
  | none => exact V_aloadN hdg hl k
  | some a => exact V_aload hdg hl k
theorem V_aload_nG {j : Fin 4} {v : Value} (hdg : decode M.2.1 pc = .ok (.aload_n j, 1)) (hv : isR v) (hl : ls[(j : Nat)]? = some (some v)) (k : V E M d b (pc + 1) ls (v :: rest) h Q X) : V E M d b pc ls rest h Q X := by
  obtain ⟨r, rfl⟩ := hv
  cases r with
  | none => exact V_aload_nN hdg hl k
  | some a => exact V_aload_n hdg hl k
theorem V_astoreG {j : Nat} {v : Value} (hdg : decode M.2.1 pc = .ok (.astore j, 2)) (hv : isR v) (hj : j < M.2.2.1) (k : V E M d b (pc + 2) (ls.set j (some v)) rest h Q X) : V E M d b pc ls (v :: rest) h Q X := by
  obtain ⟨r, rfl⟩ := hv
  cases r with
  | none => exact V_astoreN hdg hj k
  | some a => exact V_astore hdg hj k
theorem V_astore_nG {j : Fin 4} {v : Value} (hdg : decode M.2.1 pc = .ok (.astore_n j, 1)) (hv : isR v) (hj : (j : Nat) < M.2.2.1) (k : V E M d b (pc + 1) (ls.set (j : Nat) (some v)) rest h Q X) : V E M d b pc ls (v :: rest) h Q X := by
  obtain ⟨r, rfl⟩ := hv
  cases r with
  | none => exact V_astore_nN hdg hj k
  | some a => exact V_astore_n hdg hj k
theorem V_ifnullG {r : Option Nat} {off : Int} (tgt : Nat) (hdg : decode M.2.1 pc = .ok (.ifnull off, 3)) (ht : (pc : Int) + off = (tgt : Int)) (kt : r = none → V E M d b tgt ls rest h Q X) (kf : ∀ a, r = some a → V E M d b (pc + 3) ls rest h Q X) : V E M d b pc ls (va_rf r :: rest) h Q X := by
  cases r with
  | none => exact V_ifnullN tgt hdg ht (kt rfl)
  | some a => exact V_ifnull hdg (kf a rfl)
theorem V_ifnonnullG {r : Option Nat} {off : Int} (tgt : Nat) (hdg : decode M.2.1 pc = .ok (.ifnonnull off, 3)) (ht : (pc : Int) + off = (tgt : Int)) (kt : ∀ a, r = some a → V E M d b tgt ls rest h Q X) (kf : r = none → V E M d b (pc + 3) ls rest h Q X) : V E M d b pc ls (va_rf r :: rest) h Q X := by
  cases r with
  | none => exact V_ifnonnullN hdg (kf rfl)
  | some a => exact V_ifnonnull tgt hdg ht (kt a rfl)
theorem V_icmp_eqS {x off : Int} (tgt : Nat) (hdg : decode M.2.1 pc = .ok (.if_icmp .eq off, 3)) (ht : (pc : Int) + off = (tgt : Int)) (kt : V E M d b tgt ls rest h Q X) : V E M d b pc ls (vI x :: vI x :: rest) h Q X := by
  intro p l e R s m args below meth c H locs cells slots mc ms arr C hS hR hL h1 h2 h3 h4 h5 h6
  exact lv_icmp_eq C.1 C.2.1 hdg ht (fun _ => kt p l e R s m args below meth c H locs cells slots mc ms arr C hS hR hL h1 h2 h3 h4 h5 h6) (fun c1 => absurd rfl c1)
theorem V_icmp_neS {x off : Int} (hdg : decode M.2.1 pc = .ok (.if_icmp .ne off, 3)) {tgt : Nat} (ht : (pc : Int) + off = (tgt : Int)) (kf : V E M d b (pc + 3) ls rest h Q X) : V E M d b pc ls (vI x :: vI x :: rest) h Q X := by
  intro p l e R s m args below meth c H locs cells slots mc ms arr C hS hR hL h1 h2 h3 h4 h5 h6
  exact lv_icmp_ne C.1 C.2.1 hdg ht (fun c1 => absurd rfl c1) (fun _ => kf p l e R s m args below meth c H locs cells slots mc ms arr C hS hR hL h1 h2 h3 h4 h5 h6)
/-- constants are read -/
theorem V_alenK {kk n : Nat} {g : Int → Option Nat} (hdg : decode M.2.1 pc = .ok (.arraylength, 1)) (ha : cst E a (.inl (kk, n, .inr g))) {ty : FieldType} (hk : kA[kk]? = some ty) (k : V E M d b (pc + 1) ls (vI n :: rest) h Q X) : V E M d b pc ls (.ref a :: rest) h Q X := by
  intro p l e R s m args below meth c H locs cells slots mc ms arr C hS hR hL h1 h2 h3 h4 h5 h6
  exact va_alen C.1 C.2.1 C.2.2.2.2.2.2.2.2.2.1.1 (C.2.2.2.2.2.2.2.2.2.1.cst hR ha) 0 kk (x := (n, .inr (.inr (.inr (.inr (fun j : Nat => g j)))))) rfl (tysA_at hk) (v := Int32.ofInt n) rfl hdg (k p l e R s m args below meth c H locs cells slots mc ms arr C hS hR hL h1 h2 h3 h4 h5 h6)
theorem V_alenKI {kk n : Nat} {f : Int → Int} (hdg : decode M.2.1 pc = .ok (.arraylength, 1)) (ha : cst E a (.inl (kk, n, .inl f))) {ty : FieldType} (hk : kA[kk]? = some ty) (k : V E M d b (pc + 1) ls (vI n :: rest) h Q X) : V E M d b pc ls (.ref a :: rest) h Q X := by
  intro p l e R s m args below meth c H locs cells slots mc ms arr C hS hR hL h1 h2 h3 h4 h5 h6
  exact va_alen C.1 C.2.1 C.2.2.2.2.2.2.2.2.2.1.1 (C.2.2.2.2.2.2.2.2.2.1.cst hR ha) 0 kk (x := (n, .inl (fun j : Nat => Int32.ofInt (f j)))) rfl (tysA_at hk) (v := Int32.ofInt n) rfl hdg (k p l e R s m args below meth c H locs cells slots mc ms arr C hS hR hL h1 h2 h3 h4 h5 h6)
theorem V_aaldK {T : String} {kk n : Nat} {g : Int → Option Nat} {i : Int} (hdg : decode M.2.1 pc = .ok (.aaload, 1)) (ha : cst E a (.inl (kk, n, .inr g))) (hk : kA[kk]? = some (.object T)) (h0 : 0 ≤ i) (h1 : i < n) (hn : (n : Int) ≤ 2147483647) (k : V E M d b (pc + 1) ls (va_rf (g i) :: rest) h Q X) : V E M d b pc ls (vI i :: .ref a :: rest) h Q X := by
  have h0' := h0
  have h1' := h1
  intro p l e R s m args below meth c H locs cells slots mc ms arr C hS hR hL h1 h2 h3 h4 h5 h6
  refine va_aldq C.1 C.2.1 C.2.2.2.2.2.2.2.2.2.1.1 (C.2.2.2.2.2.2.2.2.2.1.cst hR ha) 0 kk (n := n) (f := fun j : Nat => g j) rfl (tysA_at hk) (vI_in h0' h1' hn) hdg ?_
  rw [vI_clamp h0' (by omega), show ((i.toNat : Nat) : Int) = i by omega]
  exact k p l e R s m args below meth c H locs cells slots mc ms arr C hS hR hL h1 h2 h3 h4 h5 h6
theorem V_getfK {ci N : Nat} {C0 : String} {T : u_T} {ty : Nat → FieldType} {df fs : List Value} {v : Value} (ok : ClsOk ci C0 T N ty df) (k : Nat) (hdg : decode M.2.1 pc = .ok (.getfield idx, 3)) (q : Cond.fieldLink M.1.cls idx (T k).1 (T k).2.1 (T k).2.2.1 ∈ lw_all) (hk : k < N) (ha : cst E a (.inr (ci, fs))) (hv : fs[k]? = some v) (kk : V E M d b (pc + 3) ls (v :: rest) h Q X) : V E M d b pc ls (.ref a :: rest) h Q X := by
  intro p l e R s m args below meth c H locs cells slots mc ms arr C hS hR hL h1 h2 h3 h4 h5 h6
  exact va_get C.1 C.2.1 C.2.2.2.2.1 ok.2.1 C.2.2.2.1 C.2.2.2.2.2.2.2.2.2.1.1 (C.2.2.2.2.2.2.2.2.2.1.cst hR ha) 0 (fs := fs) rfl ok.1 k hk (C.2.2.2.2.1 _ q) (fun _ h9 => h9) hv hdg (kk p l e R s m args below meth c H locs cells slots mc ms arr C hS hR hL h1 h2 h3 h4 h5 h6)
end Rules11
