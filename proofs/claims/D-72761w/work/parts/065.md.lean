/-! THE REFERENCE'S MEMORY: one object, its arrays (by program) -/
/-- what the reference holds: of field k, place i (a number field: place 0) -/
abbrev MG : Type := Nat → Int → Int
def mLn : Nat → Nat := fun k => match k with
  | 0 => 72
  | 4 => 6
  | 5 => 6
  | 7 => 160
  | 8 => 4
  | 9 => 209
  | 10 => 1254
  | 12 => 418
  | 13 => 2
  | 14 => 160
  | 21 => 72
  | 25 => 6
  | 26 => 6
  | 28 => 160
  | 29 => 4
  | 32 => 16
  | 36 => 12
  | 37 => 8
  | 38 => 6
  | 39 => 1002
  | 40 => 1000
  | 41 => 12
  | 42 => 1000
  | 43 => 48
  | 44 => 48
  | 46 => 8
  | 48 => 12
  | _ => 0
def mKd : Nat → Nat := fun k => match k with
  | 13 => 2
  | 39 => 2
  | 42 => 2
  | _ => 0
def mAr : List Nat := [0, 4, 5, 7, 8, 9, 10, 12, 13, 14, 21, 25, 26, 28, 29, 32, 36, 37, 38, 39, 40, 41, 42, 43, 44, 46, 48]
def mFs (B : Nat → Nat) (g : MG) : List Value := [.ref (B 0), vI (g 1 0), vI (g 2 0), vI (g 3 0), .ref (B 4), .ref (B 5), vI (g 6 0), .ref (B 7), .ref (B 8), .ref (B 9), .ref (B 10), vI (g 11 0), .ref (B 12), .ref (B 13), .ref (B 14), vI (g 15 0), vI (g 16 0), vI (g 17 0), vI (g 18 0), vI (g 19 0), vI (g 20 0), .ref (B 21), vI (g 22 0), vI (g 23 0), vI (g 24 0), .ref (B 25), .ref (B 26), vI (g 27 0), .ref (B 28), .ref (B 29), vI (g 30 0), vI (g 31 0), .ref (B 32), vI (g 33 0), vI (g 34 0), vI (g 35 0), .ref (B 36), .ref (B 37), .ref (B 38), .ref (B 39), .ref (B 40), .ref (B 41), .ref (B 42), .ref (B 43), .ref (B 44), vI (g 45 0), .ref (B 46), vI (g 47 0), .ref (B 48), vI (g 49 0)]
def gup (g : MG) (k : Nat) (i v : Int) : MG := fun k' => if k' = k then aup (g k) i v else g k'
theorem gup_eq {g : MG} {k : Nat} {i v : Int} : gup g k i v k i = v := by simp [gup, aup]
theorem gup_k {g : MG} {k : Nat} {i v : Int} : gup g k i v k = aup (g k) i v := by simp [gup]
theorem gup_ne {g : MG} {k k' : Nat} {i v : Int} (h : k' ≠ k) : gup g k i v k' = g k' := by simp [gup, h]
theorem gup_ni {g : MG} {k k' : Nat} {i i' v : Int} (h : i' ≠ i) : gup g k i v k' i' = g k' i' := by
  unfold gup aup
  by_cases hk : k' = k
  · subst hk; simp [h]
  · simp [hk]
def mIx (B : Nat → Nat) (q : Nat) : Option Nat := mAr.find? (fun k => B k == q)
def mkM (am : Nat) (B : Nat → Nat) (h0 : AH) (g : MG) : AH := fun q => if q = am then some (oO 5 (mFs B g)) else match mIx B q with | some k => some (oA (mKd k) (mLn k) (g k)) | none => h0 q
/-- the addresses are apart -/
def MB (am : Nat) (B : Nat → Nat) : Prop := (∀ j ∈ mAr, ∀ k ∈ mAr, B j = B k → j = k) ∧ ∀ k ∈ mAr, B k ≠ am
section MM
variable {am : Nat} {B : Nat → Nat} {h0 : AH} {g : MG}
theorem mIx_at (hB : MB am B) {k : Nat} (hk : k ∈ mAr) : mIx B (B k) = some k := by
  unfold mIx
  cases hf : mAr.find? (fun j => B j == B k) with
  | none =>
    have := List.find?_eq_none.mp hf k hk
    simp at this
  | some j =>
    have h1 := List.find?_some hf
    have h2 := List.mem_of_find?_eq_some hf
    rw [hB.1 j h2 k hk (by simpa using h1)]
theorem mIx_some {k q : Nat} (h : mIx B q = some k) : k ∈ mAr ∧ B k = q := ⟨List.mem_of_find?_eq_some h, by simpa using List.find?_some h⟩
theorem mkM_obj : mkM am B h0 g am = some (oO 5 (mFs B g)) := if_pos rfl
theorem mkM_arr (hB : MB am B) {k : Nat} (hk : k ∈ mAr) : mkM am B h0 g (B k) = some (oA (mKd k) (mLn k) (g k)) := by
  unfold mkM
  rw [if_neg (hB.2 k hk), mIx_at hB hk]
theorem mkM_obj_eq {g' : MG} (h : ∀ k ∈ mAr, g' k = g k) : hset (mkM am B h0 g) am (oO 5 (mFs B g')) = mkM am B h0 g' := by
  funext q
  unfold hset mkM
  by_cases hq : q = am
  · rw [if_pos hq, if_pos hq]
  · rw [if_neg hq, if_neg hq, if_neg hq]
    cases hi : mIx B q with
    | none => rfl
    | some k => show some _ = some _; rw [h k (mIx_some hi).1]
theorem mkM_arr_eq (hB : MB am B) {k : Nat} (hk : k ∈ mAr) {i v : Int} (hf : mFs B (gup g k i v) = mFs B g) : hset (mkM am B h0 g) (B k) (oA (mKd k) (mLn k) (aup (g k) i v)) = mkM am B h0 (gup g k i v) := by
  funext q
  unfold hset mkM
  by_cases hq : q = am
  · rw [if_pos hq, if_pos hq, if_neg (fun e => hB.2 k hk (e.symm.trans hq)), hf]
  · rw [if_neg hq, if_neg hq]
    by_cases hk2 : q = B k
    · subst hk2
      rw [if_pos rfl, mIx_at hB hk]
      show some _ = some _
      rw [gup_k]
    · rw [if_neg hk2]
      cases hi : mIx B q with
      | none => rfl
      | some j =>
        show some _ = some _
        have : j ≠ k := fun e => hk2 (by rw [← e]; exact (mIx_some hi).2.symm)
        rw [gup_ne this]
theorem mkM_mk {g' : MG} : mkM am B (mkM am B h0 g) g' = mkM am B h0 g' := by
  funext q
  unfold mkM
  by_cases hq : q = am
  · rw [if_pos hq, if_pos hq]
  · rw [if_neg hq, if_neg hq]
    cases hi : mIx B q with
    | none => simp [hq]
    | some k => simp [hq]
end MM
section VM1
variable {E : Ev} {M : Mt} {d b pc idx am : Nat} {B : Nat → Nat} {h0 : AH} {g : MG} {i v : Int} {ls : List (Option Value)} {rest : List Value} {Q : Value → AH → Prop} {X : Nat → AH → Prop}
/-- a number field is read -/
theorem VM_geti (k : Nat) (hdg : decode M.2.1 pc = .ok (.getfield idx, 3)) (q : Cond.fieldLink M.1.cls idx (TX7 k).1 (TX7 k).2.1 (TX7 k).2.2.1 ∈ lw_all) (hk : k < 50) (hv : (mFs B g)[k]? = some (vI (g k 0))) (kk : V E M d b (pc + 3) ls (vI (g k 0) :: rest) (mkM am B h0 g) Q X) : V E M d b pc ls (.ref am :: rest) (mkM am B h0 g) Q X :=
  V_getf okX7 k hdg q hk mkM_obj hv kk
theorem VM_geta (k : Nat) (hdg : decode M.2.1 pc = .ok (.getfield idx, 3)) (q : Cond.fieldLink M.1.cls idx (TX7 k).1 (TX7 k).2.1 (TX7 k).2.2.1 ∈ lw_all) (hk : k < 50) (hv : (mFs B g)[k]? = some (.ref (B k))) (kk : V E M d b (pc + 3) ls (.ref (B k) :: rest) (mkM am B h0 g) Q X) : V E M d b pc ls (.ref am :: rest) (mkM am B h0 g) Q X :=
  V_getf okX7 k hdg q hk mkM_obj hv kk
theorem VM_puti (k : Nat) (hdg : decode M.2.1 pc = .ok (.putfield idx, 3)) (q : Cond.fieldLink M.1.cls idx (TX7 k).1 (TX7 k).2.1 (TX7 k).2.2.1 ∈ lw_all) (hk : k < 50) (hfin : (TX7 k).2.2.2 = false) (ht : tyX7 k = .int) (hs : ∀ g : MG, (mFs B g).set k (vI v) = mFs B (gup g k 0 v)) (hka : k ∉ mAr) (kk : V E M d b (pc + 3) ls rest (mkM am B h0 (gup g k 0 v)) Q X) : V E M d b pc ls (vI v :: .ref am :: rest) (mkM am B h0 g) Q X := by
  refine V_putf okX7 k hdg q hk hfin mkM_obj (by decide) hk (by rw [ht]; rfl) (by rw [ht]; rfl) ?_
  rw [hs g, mkM_obj_eq (g' := gup g k 0 v) (fun j hj => gup_ne (fun e : j = k => hka (by rw [← e]; exact hj)))]
  exact kk
theorem VM_iald (k : Nat) (hB : MB am B) (hdg : decode M.2.1 pc = .ok (.iaload, 1)) (hk : k ∈ mAr) (hd : mKd k = 0) (h0' : 0 ≤ i) (h1 : i < mLn k) (hn : (mLn k : Int) ≤ 2147483647) (kk : V E M d b (pc + 1) ls (vI (g k i) :: rest) (mkM am B h0 g) Q X) : V E M d b pc ls (vI i :: .ref (B k) :: rest) (mkM am B h0 g) Q X :=
  V_iald hdg (mkM_arr hB hk) (by rw [hd]; rfl) h0' h1 hn kk
theorem VM_zald (k : Nat) (hB : MB am B) (hdg : decode M.2.1 pc = .ok (.baload, 1)) (hk : k ∈ mAr) (hd : mKd k = 2) (h0' : 0 ≤ i) (h1 : i < mLn k) (hn : (mLn k : Int) ≤ 2147483647) (kk : V E M d b (pc + 1) ls (vI (g k i) :: rest) (mkM am B h0 g) Q X) : V E M d b pc ls (vI i :: .ref (B k) :: rest) (mkM am B h0 g) Q X :=
  V_zald hdg (mkM_arr hB hk) (by rw [hd]; rfl) h0' h1 hn kk
theorem VM_iast (k : Nat) (hB : MB am B) (hdg : decode M.2.1 pc = .ok (.iastore, 1)) (hk : k ∈ mAr) (hd : mKd k = 0) (hf : mFs B (gup g k i v) = mFs B g) (h0' : 0 ≤ i) (h1 : i < mLn k) (hn : (mLn k : Int) ≤ 2147483647) (kk : V E M d b (pc + 1) ls rest (mkM am B h0 (gup g k i v)) Q X) : V E M d b pc ls (vI v :: vI i :: .ref (B k) :: rest) (mkM am B h0 g) Q X := by
  refine V_iast hdg (mkM_arr hB hk) (by rw [hd]; rfl) (by rw [hd]; decide) h0' h1 hn ?_
  rw [mkM_arr_eq hB hk hf]
  exact kk
theorem VM_zast (k : Nat) (hB : MB am B) (hdg : decode M.2.1 pc = .ok (.bastore, 1)) (hk : k ∈ mAr) (hd : mKd k = 2) (hf : mFs B (gup g k i v) = mFs B g) (hv : v = 0 ∨ v = 1) (h0' : 0 ≤ i) (h1 : i < mLn k) (hn : (mLn k : Int) ≤ 2147483647) (kk : V E M d b (pc + 1) ls rest (mkM am B h0 (gup g k i v)) Q X) : V E M d b pc ls (vI v :: vI i :: .ref (B k) :: rest) (mkM am B h0 g) Q X := by
  refine V_zast hdg (mkM_arr hB hk) (by rw [hd]; rfl) (by rw [hd]; decide) hv h0' h1 hn ?_
  rw [mkM_arr_eq hB hk hf]
  exact kk
end VM1
theorem mfs1 {B : Nat → Nat} {v : Int} : ∀ g : MG, (mFs B g).set 1 (vI v) = mFs B (gup g 1 0 v) := fun g => rfl
theorem mna1 : 1 ∉ mAr := by decide
theorem mfs2 {B : Nat → Nat} {v : Int} : ∀ g : MG, (mFs B g).set 2 (vI v) = mFs B (gup g 2 0 v) := fun g => rfl
theorem mna2 : 2 ∉ mAr := by decide
theorem mfs3 {B : Nat → Nat} {v : Int} : ∀ g : MG, (mFs B g).set 3 (vI v) = mFs B (gup g 3 0 v) := fun g => rfl
theorem mna3 : 3 ∉ mAr := by decide
theorem mfs6 {B : Nat → Nat} {v : Int} : ∀ g : MG, (mFs B g).set 6 (vI v) = mFs B (gup g 6 0 v) := fun g => rfl
theorem mna6 : 6 ∉ mAr := by decide
theorem mfs11 {B : Nat → Nat} {v : Int} : ∀ g : MG, (mFs B g).set 11 (vI v) = mFs B (gup g 11 0 v) := fun g => rfl
theorem mna11 : 11 ∉ mAr := by decide
theorem mfs15 {B : Nat → Nat} {v : Int} : ∀ g : MG, (mFs B g).set 15 (vI v) = mFs B (gup g 15 0 v) := fun g => rfl
theorem mna15 : 15 ∉ mAr := by decide
theorem mfs16 {B : Nat → Nat} {v : Int} : ∀ g : MG, (mFs B g).set 16 (vI v) = mFs B (gup g 16 0 v) := fun g => rfl
theorem mna16 : 16 ∉ mAr := by decide
theorem mfs17 {B : Nat → Nat} {v : Int} : ∀ g : MG, (mFs B g).set 17 (vI v) = mFs B (gup g 17 0 v) := fun g => rfl
theorem mna17 : 17 ∉ mAr := by decide
theorem mfs18 {B : Nat → Nat} {v : Int} : ∀ g : MG, (mFs B g).set 18 (vI v) = mFs B (gup g 18 0 v) := fun g => rfl
theorem mna18 : 18 ∉ mAr := by decide
theorem mfs19 {B : Nat → Nat} {v : Int} : ∀ g : MG, (mFs B g).set 19 (vI v) = mFs B (gup g 19 0 v) := fun g => rfl
theorem mna19 : 19 ∉ mAr := by decide
theorem mfs20 {B : Nat → Nat} {v : Int} : ∀ g : MG, (mFs B g).set 20 (vI v) = mFs B (gup g 20 0 v) := fun g => rfl
theorem mna20 : 20 ∉ mAr := by decide
theorem mfs22 {B : Nat → Nat} {v : Int} : ∀ g : MG, (mFs B g).set 22 (vI v) = mFs B (gup g 22 0 v) := fun g => rfl
theorem mna22 : 22 ∉ mAr := by decide
theorem mfs23 {B : Nat → Nat} {v : Int} : ∀ g : MG, (mFs B g).set 23 (vI v) = mFs B (gup g 23 0 v) := fun g => rfl
theorem mna23 : 23 ∉ mAr := by decide
theorem mfs24 {B : Nat → Nat} {v : Int} : ∀ g : MG, (mFs B g).set 24 (vI v) = mFs B (gup g 24 0 v) := fun g => rfl
theorem mna24 : 24 ∉ mAr := by decide
theorem mfs27 {B : Nat → Nat} {v : Int} : ∀ g : MG, (mFs B g).set 27 (vI v) = mFs B (gup g 27 0 v) := fun g => rfl
theorem mna27 : 27 ∉ mAr := by decide
theorem mfs30 {B : Nat → Nat} {v : Int} : ∀ g : MG, (mFs B g).set 30 (vI v) = mFs B (gup g 30 0 v) := fun g => rfl
theorem mna30 : 30 ∉ mAr := by decide
theorem mfs31 {B : Nat → Nat} {v : Int} : ∀ g : MG, (mFs B g).set 31 (vI v) = mFs B (gup g 31 0 v) := fun g => rfl
theorem mna31 : 31 ∉ mAr := by decide
theorem mfs33 {B : Nat → Nat} {v : Int} : ∀ g : MG, (mFs B g).set 33 (vI v) = mFs B (gup g 33 0 v) := fun g => rfl
theorem mna33 : 33 ∉ mAr := by decide
theorem mfs34 {B : Nat → Nat} {v : Int} : ∀ g : MG, (mFs B g).set 34 (vI v) = mFs B (gup g 34 0 v) := fun g => rfl
theorem mna34 : 34 ∉ mAr := by decide
theorem mfs35 {B : Nat → Nat} {v : Int} : ∀ g : MG, (mFs B g).set 35 (vI v) = mFs B (gup g 35 0 v) := fun g => rfl
theorem mna35 : 35 ∉ mAr := by decide
theorem mfs45 {B : Nat → Nat} {v : Int} : ∀ g : MG, (mFs B g).set 45 (vI v) = mFs B (gup g 45 0 v) := fun g => rfl
theorem mna45 : 45 ∉ mAr := by decide
theorem mfs47 {B : Nat → Nat} {v : Int} : ∀ g : MG, (mFs B g).set 47 (vI v) = mFs B (gup g 47 0 v) := fun g => rfl
theorem mna47 : 47 ∉ mAr := by decide
theorem mfs49 {B : Nat → Nat} {v : Int} : ∀ g : MG, (mFs B g).set 49 (vI v) = mFs B (gup g 49 0 v) := fun g => rfl
theorem mna49 : 49 ∉ mAr := by decide
theorem mfa0 {B : Nat → Nat} {g : MG} {i v : Int} : mFs B (gup g 0 i v) = mFs B g := rfl
theorem mar0 : 0 ∈ mAr := by decide
theorem mfa4 {B : Nat → Nat} {g : MG} {i v : Int} : mFs B (gup g 4 i v) = mFs B g := rfl
theorem mar4 : 4 ∈ mAr := by decide
theorem mfa5 {B : Nat → Nat} {g : MG} {i v : Int} : mFs B (gup g 5 i v) = mFs B g := rfl
theorem mar5 : 5 ∈ mAr := by decide
theorem mfa7 {B : Nat → Nat} {g : MG} {i v : Int} : mFs B (gup g 7 i v) = mFs B g := rfl
theorem mar7 : 7 ∈ mAr := by decide
theorem mfa8 {B : Nat → Nat} {g : MG} {i v : Int} : mFs B (gup g 8 i v) = mFs B g := rfl
theorem mar8 : 8 ∈ mAr := by decide
theorem mfa9 {B : Nat → Nat} {g : MG} {i v : Int} : mFs B (gup g 9 i v) = mFs B g := rfl
theorem mar9 : 9 ∈ mAr := by decide
theorem mfa10 {B : Nat → Nat} {g : MG} {i v : Int} : mFs B (gup g 10 i v) = mFs B g := rfl
theorem mar10 : 10 ∈ mAr := by decide
theorem mfa12 {B : Nat → Nat} {g : MG} {i v : Int} : mFs B (gup g 12 i v) = mFs B g := rfl
theorem mar12 : 12 ∈ mAr := by decide
theorem mfa13 {B : Nat → Nat} {g : MG} {i v : Int} : mFs B (gup g 13 i v) = mFs B g := rfl
theorem mar13 : 13 ∈ mAr := by decide
theorem mfa14 {B : Nat → Nat} {g : MG} {i v : Int} : mFs B (gup g 14 i v) = mFs B g := rfl
theorem mar14 : 14 ∈ mAr := by decide
theorem mfa21 {B : Nat → Nat} {g : MG} {i v : Int} : mFs B (gup g 21 i v) = mFs B g := rfl
theorem mar21 : 21 ∈ mAr := by decide
theorem mfa25 {B : Nat → Nat} {g : MG} {i v : Int} : mFs B (gup g 25 i v) = mFs B g := rfl
theorem mar25 : 25 ∈ mAr := by decide
theorem mfa26 {B : Nat → Nat} {g : MG} {i v : Int} : mFs B (gup g 26 i v) = mFs B g := rfl
theorem mar26 : 26 ∈ mAr := by decide
theorem mfa28 {B : Nat → Nat} {g : MG} {i v : Int} : mFs B (gup g 28 i v) = mFs B g := rfl
theorem mar28 : 28 ∈ mAr := by decide
theorem mfa29 {B : Nat → Nat} {g : MG} {i v : Int} : mFs B (gup g 29 i v) = mFs B g := rfl
theorem mar29 : 29 ∈ mAr := by decide
theorem mfa32 {B : Nat → Nat} {g : MG} {i v : Int} : mFs B (gup g 32 i v) = mFs B g := rfl
theorem mar32 : 32 ∈ mAr := by decide
theorem mfa36 {B : Nat → Nat} {g : MG} {i v : Int} : mFs B (gup g 36 i v) = mFs B g := rfl
theorem mar36 : 36 ∈ mAr := by decide
theorem mfa37 {B : Nat → Nat} {g : MG} {i v : Int} : mFs B (gup g 37 i v) = mFs B g := rfl
theorem mar37 : 37 ∈ mAr := by decide
theorem mfa38 {B : Nat → Nat} {g : MG} {i v : Int} : mFs B (gup g 38 i v) = mFs B g := rfl
theorem mar38 : 38 ∈ mAr := by decide
theorem mfa39 {B : Nat → Nat} {g : MG} {i v : Int} : mFs B (gup g 39 i v) = mFs B g := rfl
theorem mar39 : 39 ∈ mAr := by decide
theorem mfa40 {B : Nat → Nat} {g : MG} {i v : Int} : mFs B (gup g 40 i v) = mFs B g := rfl
theorem mar40 : 40 ∈ mAr := by decide
theorem mfa41 {B : Nat → Nat} {g : MG} {i v : Int} : mFs B (gup g 41 i v) = mFs B g := rfl
theorem mar41 : 41 ∈ mAr := by decide
theorem mfa42 {B : Nat → Nat} {g : MG} {i v : Int} : mFs B (gup g 42 i v) = mFs B g := rfl
theorem mar42 : 42 ∈ mAr := by decide
theorem mfa43 {B : Nat → Nat} {g : MG} {i v : Int} : mFs B (gup g 43 i v) = mFs B g := rfl
theorem mar43 : 43 ∈ mAr := by decide
theorem mfa44 {B : Nat → Nat} {g : MG} {i v : Int} : mFs B (gup g 44 i v) = mFs B g := rfl
theorem mar44 : 44 ∈ mAr := by decide
theorem mfa46 {B : Nat → Nat} {g : MG} {i v : Int} : mFs B (gup g 46 i v) = mFs B g := rfl
theorem mar46 : 46 ∈ mAr := by decide
theorem mfa48 {B : Nat → Nat} {g : MG} {i v : Int} : mFs B (gup g 48 i v) = mFs B g := rfl
theorem mar48 : 48 ∈ mAr := by decide
