/-! THE REFERENCE, newly made (by program) -/
/-- the object, some arrays of it made -/
def fsN (n : Nat) (B : Nat → Nat) : List Value := (List.range 50).map (fun j => if j ∈ mAr then (if j ∈ mAr.take n then .ref (B j) else .null) else vI 0)
theorem fsN_len {n : Nat} {B : Nat → Nat} : (fsN n B).length = 50 := by unfold fsN; rw [List.length_map, List.length_range]
def kI (n : Nat) (am : Nat) (B : Nat → Nat) (h0 : AH) : AH := fun q => if q = am then some (oO 5 (fsN n B)) else match (mAr.take n).find? (fun k => B k == q) with | some k => some (oA (mKd k) (mLn k) (fun _ => 0)) | none => h0 q
def bup (B : Nat → Nat) (k a : Nat) : Nat → Nat := fun j => if j = k then a else B j
theorem find_c {l : List Nat} {p p' : Nat → Bool} (h : ∀ k ∈ l, p k = p' k) : l.find? p = l.find? p' := by
  induction l with
  | nil => rfl
  | cons x r ih =>
    simp only [List.find?_cons]
    rw [h x List.mem_cons_self, ih (fun k hk => h k (List.mem_cons_of_mem _ hk))]
theorem kI_0 {am : Nat} {B : Nat → Nat} {h0 : AH} : kI 0 am B h0 = hset h0 am (oO 5 dfX7) := by
  funext q
  unfold kI hset
  by_cases e : q = am
  · rw [if_pos e, if_pos e]; rfl
  · rw [if_neg e, if_neg e]; rfl
theorem kI_s {n k am a : Nat} {B : Nat → Nat} {h0 : AH} (hn : mAr.take (n + 1) = mAr.take n ++ [k]) (hk : k ∉ mAr.take n) (hf : (fsN n B).set k (.ref a) = fsN (n + 1) (bup B k a)) (ha : kI n am B h0 a = none) : hset (hset (kI n am B h0) a (oA (mKd k) (mLn k) (fun _ => 0))) am (oO 5 ((fsN n B).set k (.ref a))) = kI (n + 1) am (bup B k a) h0 := by
  have hna : a ≠ am := by
    rintro rfl
    unfold kI at ha
    rw [if_pos rfl] at ha
    cases ha
  have e1 : ∀ q, (mAr.take n).find? (fun j => bup B k a j == q) = (mAr.take n).find? (fun j => B j == q) := fun q => find_c (fun j hj => by
    unfold bup
    rw [if_neg (show ¬ j = k from fun e => hk (by rw [← e]; exact hj))])
  have e2 : (mAr.take n).find? (fun j => B j == a) = none := by
    unfold kI at ha
    rw [if_neg hna] at ha
    cases hc : (mAr.take n).find? (fun j => B j == a) with
    | none => rfl
    | some j => rw [hc] at ha; cases ha
  funext q
  unfold hset
  by_cases e : q = am
  · rw [if_pos e]
    unfold kI
    rw [if_pos e, hf]
  · unfold kI
    simp only [if_neg e]
    rw [hn, List.find?_append, e1 q]
    by_cases ea : q = a
    · subst ea
      have : [k].find? (fun j => bup B k q j == q) = some k := by
        simp [List.find?_cons, bup]
      rw [if_pos rfl, e2, this]
      rfl
    · have : [k].find? (fun j => bup B k a j == q) = none := List.find?_eq_none.mpr (fun j hj => by
        rw [List.mem_singleton.1 hj]
        unfold bup
        rw [if_pos rfl]
        simp only [beq_iff_eq]
        exact fun z => ea z.symm)
      rw [if_neg ea, this]
      cases (mAr.take n).find? (fun j => B j == q) <;> rfl
/-- the addresses so far are apart, and were free -/
def MBn (n am : Nat) (B : Nat → Nat) (h0 : AH) : Prop := (∀ j ∈ mAr.take n, ∀ k ∈ mAr.take n, B j = B k → j = k) ∧ (∀ k ∈ mAr.take n, B k ≠ am) ∧ ∀ k ∈ mAr.take n, h0 (B k) = none
theorem MBn_s {n k am a : Nat} {B : Nat → Nat} {h0 : AH} (h : MBn n am B h0) (hn : mAr.take (n + 1) = mAr.take n ++ [k]) (hk : k ∉ mAr.take n) (ha : kI n am B h0 a = none) : MBn (n + 1) am (bup B k a) h0 := by
  have hna : a ≠ am := by
    rintro rfl
    unfold kI at ha
    rw [if_pos rfl] at ha
    cases ha
  have e2 : (mAr.take n).find? (fun j => B j == a) = none ∧ h0 a = none := by
    unfold kI at ha
    rw [if_neg hna] at ha
    cases hc : (mAr.take n).find? (fun j => B j == a) with
    | none => rw [hc] at ha; exact ⟨rfl, ha⟩
    | some j => rw [hc] at ha; cases ha
  have e3 : ∀ j ∈ mAr.take n, B j ≠ a := fun j hj e => by
    have := List.find?_eq_none.mp e2.1 j hj
    simp [e] at this
  have b1 : ∀ j ∈ mAr.take n, bup B k a j = B j := fun j hj => by
    unfold bup
    rw [if_neg (show ¬ j = k from fun e => hk (by rw [← e]; exact hj))]
  have b2 : bup B k a k = a := by unfold bup; rw [if_pos rfl]
  unfold MBn
  rw [hn]
  refine ⟨fun i hi j hj e => ?_, fun j hj => ?_, fun j hj => ?_⟩
  · rcases List.mem_append.1 hi with hi | hi <;> rcases List.mem_append.1 hj with hj | hj
    · rw [b1 i hi, b1 j hj] at e; exact h.1 i hi j hj e
    · rw [List.mem_singleton.1 hj, b1 i hi, b2] at e; exact absurd e (e3 i hi)
    · rw [List.mem_singleton.1 hi, b1 j hj, b2] at e; exact absurd e.symm (e3 j hj)
    · rw [List.mem_singleton.1 hi, List.mem_singleton.1 hj]
  · rcases List.mem_append.1 hj with hj | hj
    · rw [b1 j hj]; exact h.2.1 j hj
    · rw [List.mem_singleton.1 hj, b2]; exact hna
  · rcases List.mem_append.1 hj with hj | hj
    · rw [b1 j hj]; exact h.2.2 j hj
    · rw [List.mem_singleton.1 hj, b2]; exact e2.2
theorem kI_end {am : Nat} {B : Nat → Nat} {h0 : AH} : kI 27 am B h0 = mkM am B h0 (fun _ _ => 0) := by
  funext q
  unfold kI mkM mIx
  rfl
theorem V_hp {E : Ev} {M : Mt} {d b pc : Nat} {ls : List (Option Value)} {st : List Value} {h h2 : AH} {Q : Value → AH → Prop} {X : Nat → AH → Prop} (e : h = h2) (k : V E M d b pc ls st h2 Q X) : V E M d b pc ls st h Q X := e ▸ k
section MI
variable {E : Ev} {am : Nat} {h0 : AH} {Q : Value → AH → Prop} {X : Nat → AH → Prop}
theorem c_X7_init (K : ∀ B, MB am B → (∀ k ∈ mAr, h0 (B k) = none) → Q .null (mkM am B h0 (pBegins (fun _ _ => 0)))) : V E mX7_init 4 5738 0 [some (.ref am)] [] (hset h0 am (oO 5 dfX7)) Q X := by
  rw [← kI_0 (B := fun _ => 0)]
  have hm0 : MBn 0 am (fun _ => 0) h0 := ⟨fun j hj => by simp at hj, fun j hj => by simp at hj, fun j hj => by simp at hj⟩
  refine V_aload_n dX7_init_0 rfl ?_
  refine V_objI dX7_init_1 q2594 (by decide) (by decide) ?_
  refine V_aload_n dX7_init_4 rfl ?_
  refine V_bipush dX7_init_5 (by decide) ?_
  refine V_newaI dX7_init_7 (by decide) (by decide) (by decide) (fun a0 ha0 => ?_)
  refine V_putF okX7 0 dX7_init_9 q2606 (by decide) rfl rfl rfl (by rw [hset_ne (fun e => by subst e; unfold kI at ha0; rw [if_pos rfl] at ha0; cases ha0)]; unfold kI; rw [if_pos rfl]) (by decide) (by rw [fsN_len]; decide) rfl rfl ?_
  have hm1 := MBn_s hm0 (k := 0) rfl (by decide) ha0
  refine V_hp (kI_s (n := 0) (k := 0) rfl (by decide) rfl ha0) ?_
  refine V_aload_n dX7_init_12 rfl ?_
  refine V_bipush dX7_init_13 (by decide) ?_
  refine V_newaI dX7_init_15 (by decide) (by decide) (by decide) (fun a1 ha1 => ?_)
  refine V_putF okX7 4 dX7_init_17 q2610 (by decide) rfl rfl rfl (by rw [hset_ne (fun e => by subst e; unfold kI at ha1; rw [if_pos rfl] at ha1; cases ha1)]; unfold kI; rw [if_pos rfl]) (by decide) (by rw [fsN_len]; decide) rfl rfl ?_
  have hm2 := MBn_s hm1 (k := 4) rfl (by decide) ha1
  refine V_hp (kI_s (n := 1) (k := 4) rfl (by decide) rfl ha1) ?_
  refine V_aload_n dX7_init_20 rfl ?_
  refine V_bipush dX7_init_21 (by decide) ?_
  refine V_newaI dX7_init_23 (by decide) (by decide) (by decide) (fun a2 ha2 => ?_)
  refine V_putF okX7 5 dX7_init_25 q2611 (by decide) rfl rfl rfl (by rw [hset_ne (fun e => by subst e; unfold kI at ha2; rw [if_pos rfl] at ha2; cases ha2)]; unfold kI; rw [if_pos rfl]) (by decide) (by rw [fsN_len]; decide) rfl rfl ?_
  have hm3 := MBn_s hm2 (k := 5) rfl (by decide) ha2
  refine V_hp (kI_s (n := 2) (k := 5) rfl (by decide) rfl ha2) ?_
  refine V_aload_n dX7_init_28 rfl ?_
  refine V_sipush dX7_init_29 (by decide) ?_
  refine V_newaI dX7_init_32 (by decide) (by decide) (by decide) (fun a3 ha3 => ?_)
  refine V_putF okX7 7 dX7_init_34 q2613 (by decide) rfl rfl rfl (by rw [hset_ne (fun e => by subst e; unfold kI at ha3; rw [if_pos rfl] at ha3; cases ha3)]; unfold kI; rw [if_pos rfl]) (by decide) (by rw [fsN_len]; decide) rfl rfl ?_
  have hm4 := MBn_s hm3 (k := 7) rfl (by decide) ha3
  refine V_hp (kI_s (n := 3) (k := 7) rfl (by decide) rfl ha3) ?_
  refine V_aload_n dX7_init_37 rfl ?_
  refine V_iconst dX7_init_38 ?_
  refine V_newaI dX7_init_39 (by decide) (by decide) (by decide) (fun a4 ha4 => ?_)
  refine V_putF okX7 8 dX7_init_41 q2614 (by decide) rfl rfl rfl (by rw [hset_ne (fun e => by subst e; unfold kI at ha4; rw [if_pos rfl] at ha4; cases ha4)]; unfold kI; rw [if_pos rfl]) (by decide) (by rw [fsN_len]; decide) rfl rfl ?_
  have hm5 := MBn_s hm4 (k := 8) rfl (by decide) ha4
  refine V_hp (kI_s (n := 4) (k := 8) rfl (by decide) rfl ha4) ?_
  refine V_aload_n dX7_init_44 rfl ?_
  refine V_sipush dX7_init_45 (by decide) ?_
  refine V_newaI dX7_init_48 (by decide) (by decide) (by decide) (fun a5 ha5 => ?_)
  refine V_putF okX7 9 dX7_init_50 q2615 (by decide) rfl rfl rfl (by rw [hset_ne (fun e => by subst e; unfold kI at ha5; rw [if_pos rfl] at ha5; cases ha5)]; unfold kI; rw [if_pos rfl]) (by decide) (by rw [fsN_len]; decide) rfl rfl ?_
  have hm6 := MBn_s hm5 (k := 9) rfl (by decide) ha5
  refine V_hp (kI_s (n := 5) (k := 9) rfl (by decide) rfl ha5) ?_
  refine V_aload_n dX7_init_53 rfl ?_
  refine V_sipush dX7_init_54 (by decide) ?_
  refine V_newaI dX7_init_57 (by decide) (by decide) (by decide) (fun a6 ha6 => ?_)
  refine V_putF okX7 10 dX7_init_59 q2616 (by decide) rfl rfl rfl (by rw [hset_ne (fun e => by subst e; unfold kI at ha6; rw [if_pos rfl] at ha6; cases ha6)]; unfold kI; rw [if_pos rfl]) (by decide) (by rw [fsN_len]; decide) rfl rfl ?_
  have hm7 := MBn_s hm6 (k := 10) rfl (by decide) ha6
  refine V_hp (kI_s (n := 6) (k := 10) rfl (by decide) rfl ha6) ?_
  refine V_aload_n dX7_init_62 rfl ?_
  refine V_sipush dX7_init_63 (by decide) ?_
  refine V_newaI dX7_init_66 (by decide) (by decide) (by decide) (fun a7 ha7 => ?_)
  refine V_putF okX7 12 dX7_init_68 q2618 (by decide) rfl rfl rfl (by rw [hset_ne (fun e => by subst e; unfold kI at ha7; rw [if_pos rfl] at ha7; cases ha7)]; unfold kI; rw [if_pos rfl]) (by decide) (by rw [fsN_len]; decide) rfl rfl ?_
  have hm8 := MBn_s hm7 (k := 12) rfl (by decide) ha7
  refine V_hp (kI_s (n := 7) (k := 12) rfl (by decide) rfl ha7) ?_
  refine V_aload_n dX7_init_71 rfl ?_
  refine V_iconst dX7_init_72 ?_
  refine V_newaZ dX7_init_73 (by decide) (by decide) (by decide) (fun a8 ha8 => ?_)
  refine V_putF okX7 13 dX7_init_75 q2619 (by decide) rfl rfl rfl (by rw [hset_ne (fun e => by subst e; unfold kI at ha8; rw [if_pos rfl] at ha8; cases ha8)]; unfold kI; rw [if_pos rfl]) (by decide) (by rw [fsN_len]; decide) rfl rfl ?_
  have hm9 := MBn_s hm8 (k := 13) rfl (by decide) ha8
  refine V_hp (kI_s (n := 8) (k := 13) rfl (by decide) rfl ha8) ?_
  refine V_aload_n dX7_init_78 rfl ?_
  refine V_sipush dX7_init_79 (by decide) ?_
  refine V_newaI dX7_init_82 (by decide) (by decide) (by decide) (fun a9 ha9 => ?_)
  refine V_putF okX7 14 dX7_init_84 q2620 (by decide) rfl rfl rfl (by rw [hset_ne (fun e => by subst e; unfold kI at ha9; rw [if_pos rfl] at ha9; cases ha9)]; unfold kI; rw [if_pos rfl]) (by decide) (by rw [fsN_len]; decide) rfl rfl ?_
  have hm10 := MBn_s hm9 (k := 14) rfl (by decide) ha9
  refine V_hp (kI_s (n := 9) (k := 14) rfl (by decide) rfl ha9) ?_
  refine V_aload_n dX7_init_87 rfl ?_
  refine V_bipush dX7_init_88 (by decide) ?_
  refine V_newaI dX7_init_90 (by decide) (by decide) (by decide) (fun a10 ha10 => ?_)
  refine V_putF okX7 21 dX7_init_92 q2627 (by decide) rfl rfl rfl (by rw [hset_ne (fun e => by subst e; unfold kI at ha10; rw [if_pos rfl] at ha10; cases ha10)]; unfold kI; rw [if_pos rfl]) (by decide) (by rw [fsN_len]; decide) rfl rfl ?_
  have hm11 := MBn_s hm10 (k := 21) rfl (by decide) ha10
  refine V_hp (kI_s (n := 10) (k := 21) rfl (by decide) rfl ha10) ?_
  refine V_aload_n dX7_init_95 rfl ?_
  refine V_bipush dX7_init_96 (by decide) ?_
  refine V_newaI dX7_init_98 (by decide) (by decide) (by decide) (fun a11 ha11 => ?_)
  refine V_putF okX7 25 dX7_init_100 q2631 (by decide) rfl rfl rfl (by rw [hset_ne (fun e => by subst e; unfold kI at ha11; rw [if_pos rfl] at ha11; cases ha11)]; unfold kI; rw [if_pos rfl]) (by decide) (by rw [fsN_len]; decide) rfl rfl ?_
  have hm12 := MBn_s hm11 (k := 25) rfl (by decide) ha11
  refine V_hp (kI_s (n := 11) (k := 25) rfl (by decide) rfl ha11) ?_
  refine V_aload_n dX7_init_103 rfl ?_
  refine V_bipush dX7_init_104 (by decide) ?_
  refine V_newaI dX7_init_106 (by decide) (by decide) (by decide) (fun a12 ha12 => ?_)
  refine V_putF okX7 26 dX7_init_108 q2632 (by decide) rfl rfl rfl (by rw [hset_ne (fun e => by subst e; unfold kI at ha12; rw [if_pos rfl] at ha12; cases ha12)]; unfold kI; rw [if_pos rfl]) (by decide) (by rw [fsN_len]; decide) rfl rfl ?_
  have hm13 := MBn_s hm12 (k := 26) rfl (by decide) ha12
  refine V_hp (kI_s (n := 12) (k := 26) rfl (by decide) rfl ha12) ?_
  refine V_aload_n dX7_init_111 rfl ?_
  refine V_sipush dX7_init_112 (by decide) ?_
  refine V_newaI dX7_init_115 (by decide) (by decide) (by decide) (fun a13 ha13 => ?_)
  refine V_putF okX7 28 dX7_init_117 q2634 (by decide) rfl rfl rfl (by rw [hset_ne (fun e => by subst e; unfold kI at ha13; rw [if_pos rfl] at ha13; cases ha13)]; unfold kI; rw [if_pos rfl]) (by decide) (by rw [fsN_len]; decide) rfl rfl ?_
  have hm14 := MBn_s hm13 (k := 28) rfl (by decide) ha13
  refine V_hp (kI_s (n := 13) (k := 28) rfl (by decide) rfl ha13) ?_
  refine V_aload_n dX7_init_120 rfl ?_
  refine V_iconst dX7_init_121 ?_
  refine V_newaI dX7_init_122 (by decide) (by decide) (by decide) (fun a14 ha14 => ?_)
  refine V_putF okX7 29 dX7_init_124 q2635 (by decide) rfl rfl rfl (by rw [hset_ne (fun e => by subst e; unfold kI at ha14; rw [if_pos rfl] at ha14; cases ha14)]; unfold kI; rw [if_pos rfl]) (by decide) (by rw [fsN_len]; decide) rfl rfl ?_
  have hm15 := MBn_s hm14 (k := 29) rfl (by decide) ha14
  refine V_hp (kI_s (n := 14) (k := 29) rfl (by decide) rfl ha14) ?_
  refine V_aload_n dX7_init_127 rfl ?_
  refine V_bipush dX7_init_128 (by decide) ?_
  refine V_newaI dX7_init_130 (by decide) (by decide) (by decide) (fun a15 ha15 => ?_)
  refine V_putF okX7 32 dX7_init_132 q2638 (by decide) rfl rfl rfl (by rw [hset_ne (fun e => by subst e; unfold kI at ha15; rw [if_pos rfl] at ha15; cases ha15)]; unfold kI; rw [if_pos rfl]) (by decide) (by rw [fsN_len]; decide) rfl rfl ?_
  have hm16 := MBn_s hm15 (k := 32) rfl (by decide) ha15
  refine V_hp (kI_s (n := 15) (k := 32) rfl (by decide) rfl ha15) ?_
  refine V_aload_n dX7_init_135 rfl ?_
  refine V_bipush dX7_init_136 (by decide) ?_
  refine V_newaI dX7_init_138 (by decide) (by decide) (by decide) (fun a16 ha16 => ?_)
  refine V_putF okX7 36 dX7_init_140 q2642 (by decide) rfl rfl rfl (by rw [hset_ne (fun e => by subst e; unfold kI at ha16; rw [if_pos rfl] at ha16; cases ha16)]; unfold kI; rw [if_pos rfl]) (by decide) (by rw [fsN_len]; decide) rfl rfl ?_
  have hm17 := MBn_s hm16 (k := 36) rfl (by decide) ha16
  refine V_hp (kI_s (n := 16) (k := 36) rfl (by decide) rfl ha16) ?_
  refine V_aload_n dX7_init_143 rfl ?_
  refine V_bipush dX7_init_144 (by decide) ?_
  refine V_newaI dX7_init_146 (by decide) (by decide) (by decide) (fun a17 ha17 => ?_)
  refine V_putF okX7 37 dX7_init_148 q2643 (by decide) rfl rfl rfl (by rw [hset_ne (fun e => by subst e; unfold kI at ha17; rw [if_pos rfl] at ha17; cases ha17)]; unfold kI; rw [if_pos rfl]) (by decide) (by rw [fsN_len]; decide) rfl rfl ?_
  have hm18 := MBn_s hm17 (k := 37) rfl (by decide) ha17
  refine V_hp (kI_s (n := 17) (k := 37) rfl (by decide) rfl ha17) ?_
  refine V_aload_n dX7_init_151 rfl ?_
  refine V_bipush dX7_init_152 (by decide) ?_
  refine V_newaI dX7_init_154 (by decide) (by decide) (by decide) (fun a18 ha18 => ?_)
  refine V_putF okX7 38 dX7_init_156 q2644 (by decide) rfl rfl rfl (by rw [hset_ne (fun e => by subst e; unfold kI at ha18; rw [if_pos rfl] at ha18; cases ha18)]; unfold kI; rw [if_pos rfl]) (by decide) (by rw [fsN_len]; decide) rfl rfl ?_
  have hm19 := MBn_s hm18 (k := 38) rfl (by decide) ha18
  refine V_hp (kI_s (n := 18) (k := 38) rfl (by decide) rfl ha18) ?_
  refine V_aload_n dX7_init_159 rfl ?_
  refine V_sipush dX7_init_160 (by decide) ?_
  refine V_newaZ dX7_init_163 (by decide) (by decide) (by decide) (fun a19 ha19 => ?_)
  refine V_putF okX7 39 dX7_init_165 q2645 (by decide) rfl rfl rfl (by rw [hset_ne (fun e => by subst e; unfold kI at ha19; rw [if_pos rfl] at ha19; cases ha19)]; unfold kI; rw [if_pos rfl]) (by decide) (by rw [fsN_len]; decide) rfl rfl ?_
  have hm20 := MBn_s hm19 (k := 39) rfl (by decide) ha19
  refine V_hp (kI_s (n := 19) (k := 39) rfl (by decide) rfl ha19) ?_
  refine V_aload_n dX7_init_168 rfl ?_
  refine V_sipush dX7_init_169 (by decide) ?_
  refine V_newaI dX7_init_172 (by decide) (by decide) (by decide) (fun a20 ha20 => ?_)
  refine V_putF okX7 40 dX7_init_174 q2646 (by decide) rfl rfl rfl (by rw [hset_ne (fun e => by subst e; unfold kI at ha20; rw [if_pos rfl] at ha20; cases ha20)]; unfold kI; rw [if_pos rfl]) (by decide) (by rw [fsN_len]; decide) rfl rfl ?_
  have hm21 := MBn_s hm20 (k := 40) rfl (by decide) ha20
  refine V_hp (kI_s (n := 20) (k := 40) rfl (by decide) rfl ha20) ?_
  refine V_aload_n dX7_init_177 rfl ?_
  refine V_bipush dX7_init_178 (by decide) ?_
  refine V_newaI dX7_init_180 (by decide) (by decide) (by decide) (fun a21 ha21 => ?_)
  refine V_putF okX7 41 dX7_init_182 q2647 (by decide) rfl rfl rfl (by rw [hset_ne (fun e => by subst e; unfold kI at ha21; rw [if_pos rfl] at ha21; cases ha21)]; unfold kI; rw [if_pos rfl]) (by decide) (by rw [fsN_len]; decide) rfl rfl ?_
  have hm22 := MBn_s hm21 (k := 41) rfl (by decide) ha21
  refine V_hp (kI_s (n := 21) (k := 41) rfl (by decide) rfl ha21) ?_
  refine V_aload_n dX7_init_185 rfl ?_
  refine V_sipush dX7_init_186 (by decide) ?_
  refine V_newaZ dX7_init_189 (by decide) (by decide) (by decide) (fun a22 ha22 => ?_)
  refine V_putF okX7 42 dX7_init_191 q2648 (by decide) rfl rfl rfl (by rw [hset_ne (fun e => by subst e; unfold kI at ha22; rw [if_pos rfl] at ha22; cases ha22)]; unfold kI; rw [if_pos rfl]) (by decide) (by rw [fsN_len]; decide) rfl rfl ?_
  have hm23 := MBn_s hm22 (k := 42) rfl (by decide) ha22
  refine V_hp (kI_s (n := 22) (k := 42) rfl (by decide) rfl ha22) ?_
  refine V_aload_n dX7_init_194 rfl ?_
  refine V_bipush dX7_init_195 (by decide) ?_
  refine V_newaI dX7_init_197 (by decide) (by decide) (by decide) (fun a23 ha23 => ?_)
  refine V_putF okX7 43 dX7_init_199 q2649 (by decide) rfl rfl rfl (by rw [hset_ne (fun e => by subst e; unfold kI at ha23; rw [if_pos rfl] at ha23; cases ha23)]; unfold kI; rw [if_pos rfl]) (by decide) (by rw [fsN_len]; decide) rfl rfl ?_
  have hm24 := MBn_s hm23 (k := 43) rfl (by decide) ha23
  refine V_hp (kI_s (n := 23) (k := 43) rfl (by decide) rfl ha23) ?_
  refine V_aload_n dX7_init_202 rfl ?_
  refine V_bipush dX7_init_203 (by decide) ?_
  refine V_newaI dX7_init_205 (by decide) (by decide) (by decide) (fun a24 ha24 => ?_)
  refine V_putF okX7 44 dX7_init_207 q2650 (by decide) rfl rfl rfl (by rw [hset_ne (fun e => by subst e; unfold kI at ha24; rw [if_pos rfl] at ha24; cases ha24)]; unfold kI; rw [if_pos rfl]) (by decide) (by rw [fsN_len]; decide) rfl rfl ?_
  have hm25 := MBn_s hm24 (k := 44) rfl (by decide) ha24
  refine V_hp (kI_s (n := 24) (k := 44) rfl (by decide) rfl ha24) ?_
  refine V_aload_n dX7_init_210 rfl ?_
  refine V_bipush dX7_init_211 (by decide) ?_
  refine V_newaI dX7_init_213 (by decide) (by decide) (by decide) (fun a25 ha25 => ?_)
  refine V_putF okX7 46 dX7_init_215 q2652 (by decide) rfl rfl rfl (by rw [hset_ne (fun e => by subst e; unfold kI at ha25; rw [if_pos rfl] at ha25; cases ha25)]; unfold kI; rw [if_pos rfl]) (by decide) (by rw [fsN_len]; decide) rfl rfl ?_
  have hm26 := MBn_s hm25 (k := 46) rfl (by decide) ha25
  refine V_hp (kI_s (n := 25) (k := 46) rfl (by decide) rfl ha25) ?_
  refine V_aload_n dX7_init_218 rfl ?_
  refine V_bipush dX7_init_219 (by decide) ?_
  refine V_newaI dX7_init_221 (by decide) (by decide) (by decide) (fun a26 ha26 => ?_)
  refine V_putF okX7 48 dX7_init_223 q2654 (by decide) rfl rfl rfl (by rw [hset_ne (fun e => by subst e; unfold kI at ha26; rw [if_pos rfl] at ha26; cases ha26)]; unfold kI; rw [if_pos rfl]) (by decide) (by rw [fsN_len]; decide) rfl rfl ?_
  have hm27 := MBn_s hm26 (k := 48) rfl (by decide) ha26
  refine V_hp (kI_s (n := 26) (k := 48) rfl (by decide) rfl ha26) ?_
  rw [kI_end]
  have hB : MB am _ := ⟨hm27.1, hm27.2.1⟩
  refine V_aload_n dX7_init_226 rfl ?_
  refine VM_v0 (M' := mX7_begins) okX7_begins rfl dX7_init_227 q2595 rfl rfl (Nat.le_of_ble_eq_true rfl) (d' := 3) (b1 := 0) (by decide) (by decide) (c_X7_begins hB (fun _ _ => by decide) ?_)
  exact V_vret dX7_init_230 rfl (K _ hB hm27.2.2)
end MI
