set_option maxRecDepth 100000
set_option maxHeartbeats 4000000
/-! owls()I -/
abbrev rmX3_owls : Room := { frames := 1, cells := 0, slots := 0, locals := 21 }
theorem dmX3_owls : yX3_owls.cls ≠ "java/lang/invoke/MethodHandle" ∧ yX3_owls.cls ≠ "java/lang/invoke/VarHandle" ∧ (parseMethodDescriptor yX3_owls.desc).map (fun d => d.parameters.length) = some 0 := by decide +kernel
def tw_X3_owls (M : MS) (Q : Int32 → MS → Prop) : Prop :=
  (vp_in 3 754 ∧ tw_X3_tells M (ms_r M 0 3) (fun r7 M7 => Q r7 M7))
theorem tk_X3_owls {l : Launch} {D : va_G} {g : Nat → Nat} {cI cJ : ClassId} {sz : Nat} {M : MS} {Q : Int32 → MS → Prop} (h : tw_X3_owls M Q) : tm_Met l yX3_owls cX3_owls 1 (some .int) rmX3_owls [] D g cI cJ sz M (va_Qi Q (tm_B D g cI cJ sz) (tm_A g sz)) := by
  refine tm_entry (by decide) (Nat.le_of_ble_eq_true rfl) (fun p e s m args below meth c hsz C hK => ?_)
  subst hsz
  unfold tw_X3_owls at h
  show gx_W p l e (headSpec (ws_ yX3_owls cX3_owls 1 (some .int)) rmX3_owls).room s m args below meth c 1 (tm_I D g cI cJ s M) 0 0 (MQ below (va_Qi Q (tm_B D g cI cJ s.heap.size) (tm_A g s.heap.size)) args s 0 0 (tm_A g s.heap.size)) 0 [(0, .ref (g 0))] []
  refine gx_aload_n C dX3_owls_0 rfl 0 rfl ?_
  refine gx_aload_n C dX3_owls_1 rfl 0 rfl ?_
  refine tm_get C hK 1 (by decide) q2301 rfl rfl dX3_owls_2 ?_
  refine gx_iconst (v := 3) C dX3_owls_5 (by decide) ?_
  obtain ⟨g6, h⟩ := h
  refine tm_ald0 C hK g6 dX3_owls_6 ?_
  refine tm_calli (rest := []) C hK (fun sz => tk_X3_tells h) (cwV 1 C.t (lw_V q2570 q2572 qs82 q130 q2573) rfl rfl rfl ⟨rfl, dmX3_tells⟩ ⟨Nat.le_of_ble_eq_true rfl, Nat.le_of_ble_eq_true rfl⟩) rfl rfl (Nat.le_of_ble_eq_true rfl) dX3_owls_7 (fun r7 M7 h => ?_)
  exact tm_iret C hK h dX3_owls_10
/-! owlsByAccount()I -/
abbrev rmX3_owlsByAccount : Room := { frames := 1, cells := 0, slots := 0, locals := 21 }
theorem dmX3_owlsByAccount : yX3_owlsByAccount.cls ≠ "java/lang/invoke/MethodHandle" ∧ yX3_owlsByAccount.cls ≠ "java/lang/invoke/VarHandle" ∧ (parseMethodDescriptor yX3_owlsByAccount.desc).map (fun d => d.parameters.length) = some 0 := by decide +kernel
def tw_X3_owlsByAccount (M : MS) (Q : Int32 → MS → Prop) : Prop :=
  (vp_in 14 754 ∧ (vp_in 5 754 ∧ (vp_in 10 754 ∧ (vp_in 11 754 ∧ (vp_in 12 754 ∧ (vp_in 13 754 ∧ (vp_in 6 754 ∧ tw_X3_tells M (((((((ms_r M 0 14) + (ms_r M 0 5)) - (ms_r M 0 10)) - (ms_r M 0 11)) - (ms_r M 0 12)) - (ms_r M 0 13)) - (ms_r M 0 6)) (fun r55 M55 => Q r55 M55))))))))
theorem tk_X3_owlsByAccount {l : Launch} {D : va_G} {g : Nat → Nat} {cI cJ : ClassId} {sz : Nat} {M : MS} {Q : Int32 → MS → Prop} (h : tw_X3_owlsByAccount M Q) : tm_Met l yX3_owlsByAccount cX3_owlsByAccount 1 (some .int) rmX3_owlsByAccount [] D g cI cJ sz M (va_Qi Q (tm_B D g cI cJ sz) (tm_A g sz)) := by
  refine tm_entry (by decide) (Nat.le_of_ble_eq_true rfl) (fun p e s m args below meth c hsz C hK => ?_)
  subst hsz
  unfold tw_X3_owlsByAccount at h
  show gx_W p l e (headSpec (ws_ yX3_owlsByAccount cX3_owlsByAccount 1 (some .int)) rmX3_owlsByAccount).room s m args below meth c 1 (tm_I D g cI cJ s M) 0 0 (MQ below (va_Qi Q (tm_B D g cI cJ s.heap.size) (tm_A g s.heap.size)) args s 0 0 (tm_A g s.heap.size)) 0 [(0, .ref (g 0))] []
  refine gx_aload_n C dX3_owlsByAccount_0 rfl 0 rfl ?_
  refine gx_aload_n C dX3_owlsByAccount_1 rfl 0 rfl ?_
  refine tm_get C hK 1 (by decide) q2301 rfl rfl dX3_owlsByAccount_2 ?_
  refine gx_bipush (v := 14) C dX3_owlsByAccount_5 (by decide) ?_
  obtain ⟨g7, h⟩ := h
  refine tm_ald0 C hK g7 dX3_owlsByAccount_7 ?_
  refine gx_aload_n C dX3_owlsByAccount_8 rfl 0 rfl ?_
  refine tm_get C hK 1 (by decide) q2301 rfl rfl dX3_owlsByAccount_9 ?_
  refine gx_iconst (v := 5) C dX3_owlsByAccount_12 (by decide) ?_
  obtain ⟨g13, h⟩ := h
  refine tm_ald0 C hK g13 dX3_owlsByAccount_13 ?_
  refine gx_iadd C dX3_owlsByAccount_14 ?_
  refine gx_aload_n C dX3_owlsByAccount_15 rfl 0 rfl ?_
  refine tm_get C hK 1 (by decide) q2301 rfl rfl dX3_owlsByAccount_16 ?_
  refine gx_bipush (v := 10) C dX3_owlsByAccount_19 (by decide) ?_
  obtain ⟨g21, h⟩ := h
  refine tm_ald0 C hK g21 dX3_owlsByAccount_21 ?_
  refine gx_isub C dX3_owlsByAccount_22 ?_
  refine gx_aload_n C dX3_owlsByAccount_23 rfl 0 rfl ?_
  refine tm_get C hK 1 (by decide) q2301 rfl rfl dX3_owlsByAccount_24 ?_
  refine gx_bipush (v := 11) C dX3_owlsByAccount_27 (by decide) ?_
  obtain ⟨g29, h⟩ := h
  refine tm_ald0 C hK g29 dX3_owlsByAccount_29 ?_
  refine gx_isub C dX3_owlsByAccount_30 ?_
  refine gx_aload_n C dX3_owlsByAccount_31 rfl 0 rfl ?_
  refine tm_get C hK 1 (by decide) q2301 rfl rfl dX3_owlsByAccount_32 ?_
  refine gx_bipush (v := 12) C dX3_owlsByAccount_35 (by decide) ?_
  obtain ⟨g37, h⟩ := h
  refine tm_ald0 C hK g37 dX3_owlsByAccount_37 ?_
  refine gx_isub C dX3_owlsByAccount_38 ?_
  refine gx_aload_n C dX3_owlsByAccount_39 rfl 0 rfl ?_
  refine tm_get C hK 1 (by decide) q2301 rfl rfl dX3_owlsByAccount_40 ?_
  refine gx_bipush (v := 13) C dX3_owlsByAccount_43 (by decide) ?_
  obtain ⟨g45, h⟩ := h
  refine tm_ald0 C hK g45 dX3_owlsByAccount_45 ?_
  refine gx_isub C dX3_owlsByAccount_46 ?_
  refine gx_aload_n C dX3_owlsByAccount_47 rfl 0 rfl ?_
  refine tm_get C hK 1 (by decide) q2301 rfl rfl dX3_owlsByAccount_48 ?_
  refine gx_bipush (v := 6) C dX3_owlsByAccount_51 (by decide) ?_
  obtain ⟨g53, h⟩ := h
  refine tm_ald0 C hK g53 dX3_owlsByAccount_53 ?_
  refine gx_isub C dX3_owlsByAccount_54 ?_
  refine tm_calli (rest := []) C hK (fun sz => tk_X3_tells h) (cwV 1 C.t (lw_V q2570 q2572 qs82 q130 q2573) rfl rfl rfl ⟨rfl, dmX3_tells⟩ ⟨Nat.le_of_ble_eq_true rfl, Nat.le_of_ble_eq_true rfl⟩) rfl rfl (Nat.le_of_ble_eq_true rfl) dX3_owlsByAccount_55 (fun r55 M55 h => ?_)
  exact tm_iret C hK h dX3_owlsByAccount_58
/-! wandering()I -/
abbrev rmX3_wandering : Room := { frames := 1, cells := 0, slots := 0, locals := 22 }
theorem dmX3_wandering : yX3_wandering.cls ≠ "java/lang/invoke/MethodHandle" ∧ yX3_wandering.cls ≠ "java/lang/invoke/VarHandle" ∧ (parseMethodDescriptor yX3_wandering.desc).map (fun d => d.parameters.length) = some 0 := by decide +kernel
def tj_X3_wandering_4 (M : MS) (a1 : Int32) (a2 : Int32) (k4 : MS → Int32 → Int32 → Prop) (Q : Int32 → MS → Prop) : Prop :=
  (vp_in 3 754 ∧ (((ms_r M 0 3) ≤ a2 → Q a1 M) ∧ (¬ (ms_r M 0 3) ≤ a2 → tw_X3_of M a2 5 (fun r18 M18 => k4 M18 (a1 + (if r18 = (-1) then 1 else 0)) (a2 + 1)))))
theorem tb_X3_wandering_4 {l : Launch} {p : Program} {e : Env} {s : State} {m : MethodId} {args : Array Value} {below : List Frame} {meth : Method} {c : Code} {D : va_G} {g : Nat → Nat} {cI cJ : ClassId} (C : gx_C p s m args meth c cX3_wandering 3 (some .int) RX3) (hK : va_K D gcl [(cI, .int), (cJ, .long)] s) {M : MS} {a1 : Int32} {a2 : Int32} {k4 : MS → Int32 → Int32 → Prop} {Q : Int32 → MS → Prop} (h : tj_X3_wandering_4 M a1 a2 k4 Q) (hk4 : ∀ (M : MS) (a1 : Int32) (a2 : Int32), k4 M a1 a2 → gx_W p l e (headSpec (ws_ yX3_wandering cX3_wandering 3 (some .int)) rmX3_wandering).room s m args below meth c 3 (tm_I D g cI cJ s M) 0 0 (MQ below (va_Qi Q (tm_B D g cI cJ s.heap.size) (tm_A g s.heap.size)) args s 0 0 (tm_A g s.heap.size)) 4 [(0, .ref (g 0)), (1, .int a1), (2, .int a2)] []) : gx_W p l e (headSpec (ws_ yX3_wandering cX3_wandering 3 (some .int)) rmX3_wandering).room s m args below meth c 3 (tm_I D g cI cJ s M) 0 0 (MQ below (va_Qi Q (tm_B D g cI cJ s.heap.size) (tm_A g s.heap.size)) args s 0 0 (tm_A g s.heap.size)) 4 [(0, .ref (g 0)), (1, .int a1), (2, .int a2)] [] := by
  unfold tj_X3_wandering_4 at h
  refine gx_iload_n C dX3_wandering_4 rfl 2 rfl ?_
  refine gx_aload_n C dX3_wandering_5 rfl 0 rfl ?_
  refine tm_get C hK 1 (by decide) q2301 rfl rfl dX3_wandering_6 ?_
  refine gx_iconst (v := 3) C dX3_wandering_9 (by decide) ?_
  obtain ⟨g10, h⟩ := h
  refine tm_ald0 C hK g10 dX3_wandering_10 ?_
  refine gx_icmp_ge (tgt := 38) C dX3_wandering_11 (by decide) (fun z => ?_) (fun z => ?_)
  · replace h := h.1 z
    refine gx_iload_n C dX3_wandering_38 rfl 1 rfl ?_
    exact tm_iret C hK h dX3_wandering_39
  · replace h := h.2 z
    refine gx_iload_n C dX3_wandering_14 rfl 1 rfl ?_
    refine gx_aload_n C dX3_wandering_15 rfl 0 rfl ?_
    refine gx_iload_n C dX3_wandering_16 rfl 2 rfl ?_
    refine gx_iconst (v := 5) C dX3_wandering_17 (by decide) ?_
    refine tm_calli (rest := [.int a1]) C hK (fun sz => tk_X3_of h) (cwV 2 C.t (lw_V q2435 q2437 qs57 q130 q2438) rfl rfl rfl ⟨rfl, dmX3_of⟩ ⟨Nat.le_of_ble_eq_true rfl, Nat.le_of_ble_eq_true rfl⟩) rfl rfl (Nat.le_of_ble_eq_true rfl) dX3_wandering_18 (fun r18 M18 h => ?_)
    refine gx_iconst (v := (-1)) C dX3_wandering_21 (by decide) ?_
    refine gx_phii (t := (if r18 = (-1) then 1 else 0)) (pc2 := 30) (lv2 := [(0, .ref (g 0)), (1, .int a1), (2, .int a2)]) (rest2 := [.int a1]) (fun key => ?_) ?_
    · refine gx_icmp_ne (tgt := 29) C dX3_wandering_22 (by decide) (fun z1 => ?_) (fun z1 => ?_)
      · refine gx_iconst (v := 0) C dX3_wandering_29 (by decide) ?_
        exact gx_casti (if_neg z1) key
      · refine gx_iconst (v := 1) C dX3_wandering_25 (by decide) ?_
        refine gx_goto (tgt := 30) C dX3_wandering_26 (by decide) ?_
        exact gx_casti (if_pos z1) key
    refine gx_iadd C dX3_wandering_30 ?_
    refine gx_istore_n (lv' := [(1, .int (a1 + (if r18 = (-1) then 1 else 0))), (0, .ref (g 0)), (2, .int a2)]) C dX3_wandering_31 rfl (by decide) rfl ?_
    refine gx_iinc (v := a2 + 1) (k := 2) (lv' := [(2, .int (a2 + 1)), (1, .int (a1 + (if r18 = (-1) then 1 else 0))), (0, .ref (g 0))]) C dX3_wandering_32 rfl rfl (by decide) rfl ?_
    refine gx_goto (tgt := 4) C dX3_wandering_35 (by decide) ?_
    refine gx_sub [2, 1, 0] rfl ?_
    exact hk4 M18 (a1 + (if r18 = (-1) then 1 else 0)) (a2 + 1) h
def tl_X3_wandering_4 (Q : Int32 → MS → Prop) : Nat → MS → Int32 → Int32 → Prop
  | 0, _, _, _ => False
  | n + 1, M, a1, a2 => tj_X3_wandering_4 M a1 a2 (fun M a1 a2 => tl_X3_wandering_4 Q n M a1 a2) Q
theorem te_X3_wandering_4 {l : Launch} {p : Program} {e : Env} {s : State} {m : MethodId} {args : Array Value} {below : List Frame} {meth : Method} {c : Code} {D : va_G} {g : Nat → Nat} {cI cJ : ClassId} (C : gx_C p s m args meth c cX3_wandering 3 (some .int) RX3) (hK : va_K D gcl [(cI, .int), (cJ, .long)] s) {Q : Int32 → MS → Prop}  (n : Nat) : ∀ (M : MS) (a1 : Int32) (a2 : Int32), tl_X3_wandering_4 Q n M a1 a2 → gx_W p l e (headSpec (ws_ yX3_wandering cX3_wandering 3 (some .int)) rmX3_wandering).room s m args below meth c 3 (tm_I D g cI cJ s M) 0 0 (MQ below (va_Qi Q (tm_B D g cI cJ s.heap.size) (tm_A g s.heap.size)) args s 0 0 (tm_A g s.heap.size)) 4 [(0, .ref (g 0)), (1, .int a1), (2, .int a2)] [] := by
  induction n with
  | zero => intro M a1 a2 h; exact False.elim h
  | succ n ih => intro M a1 a2 h; exact tb_X3_wandering_4 C hK (show tj_X3_wandering_4 M a1 a2 (fun M a1 a2 => tl_X3_wandering_4 Q n M a1 a2) Q from h) (fun M a1 a2 h => ih M a1 a2 h)
def tw_X3_wandering (M : MS) (Q : Int32 → MS → Prop) : Prop :=
  ∃ n : Nat, tl_X3_wandering_4 Q n M 0 0
theorem tk_X3_wandering {l : Launch} {D : va_G} {g : Nat → Nat} {cI cJ : ClassId} {sz : Nat} {M : MS} {Q : Int32 → MS → Prop} (h : tw_X3_wandering M Q) : tm_Met l yX3_wandering cX3_wandering 3 (some .int) rmX3_wandering [] D g cI cJ sz M (va_Qi Q (tm_B D g cI cJ sz) (tm_A g sz)) := by
  refine tm_entry (by decide) (Nat.le_of_ble_eq_true rfl) (fun p e s m args below meth c hsz C hK => ?_)
  subst hsz
  unfold tw_X3_wandering at h
  show gx_W p l e (headSpec (ws_ yX3_wandering cX3_wandering 3 (some .int)) rmX3_wandering).room s m args below meth c 3 (tm_I D g cI cJ s M) 0 0 (MQ below (va_Qi Q (tm_B D g cI cJ s.heap.size) (tm_A g s.heap.size)) args s 0 0 (tm_A g s.heap.size)) 0 [(0, .ref (g 0))] []
  refine gx_iconst (v := 0) C dX3_wandering_0 (by decide) ?_
  refine gx_istore_n (lv' := [(1, .int 0), (0, .ref (g 0))]) C dX3_wandering_1 rfl (by decide) rfl ?_
  refine gx_iconst (v := 0) C dX3_wandering_2 (by decide) ?_
  refine gx_istore_n (lv' := [(2, .int 0), (1, .int 0), (0, .ref (g 0))]) C dX3_wandering_3 rfl (by decide) rfl ?_
  refine gx_sub [2, 1, 0] rfl ?_
  obtain ⟨n, h⟩ := h
  exact te_X3_wandering_4 C hK n M 0 0 h
/-! wanderers()I -/
abbrev rmX3_wanderers : Room := { frames := 2, cells := 0, slots := 0, locals := 44 }
theorem dmX3_wanderers : yX3_wanderers.cls ≠ "java/lang/invoke/MethodHandle" ∧ yX3_wanderers.cls ≠ "java/lang/invoke/VarHandle" ∧ (parseMethodDescriptor yX3_wanderers.desc).map (fun d => d.parameters.length) = some 0 := by decide +kernel
def tw_X3_wanderers (M : MS) (Q : Int32 → MS → Prop) : Prop :=
  tw_X3_wandering M (fun r2 M2 => tw_X3_tells M2 r2 (fun r5 M5 => Q r5 M5))
theorem tk_X3_wanderers {l : Launch} {D : va_G} {g : Nat → Nat} {cI cJ : ClassId} {sz : Nat} {M : MS} {Q : Int32 → MS → Prop} (h : tw_X3_wanderers M Q) : tm_Met l yX3_wanderers cX3_wanderers 1 (some .int) rmX3_wanderers [] D g cI cJ sz M (va_Qi Q (tm_B D g cI cJ sz) (tm_A g sz)) := by
  refine tm_entry (by decide) (Nat.le_of_ble_eq_true rfl) (fun p e s m args below meth c hsz C hK => ?_)
  subst hsz
  unfold tw_X3_wanderers at h
  show gx_W p l e (headSpec (ws_ yX3_wanderers cX3_wanderers 1 (some .int)) rmX3_wanderers).room s m args below meth c 1 (tm_I D g cI cJ s M) 0 0 (MQ below (va_Qi Q (tm_B D g cI cJ s.heap.size) (tm_A g s.heap.size)) args s 0 0 (tm_A g s.heap.size)) 0 [(0, .ref (g 0))] []
  refine gx_aload_n C dX3_wanderers_0 rfl 0 rfl ?_
  refine gx_aload_n C dX3_wanderers_1 rfl 0 rfl ?_
  refine tm_calli (rest := [.ref (g 0)]) C hK (fun sz => tk_X3_wandering h) (cwV 0 C.t (lw_V q2674 q2676 qs87 q130 q2677) rfl rfl rfl ⟨rfl, dmX3_wandering⟩ ⟨Nat.le_of_ble_eq_true rfl, Nat.le_of_ble_eq_true rfl⟩) rfl rfl (Nat.le_of_ble_eq_true rfl) dX3_wanderers_2 (fun r2 M2 h => ?_)
  refine tm_calli (rest := []) C hK (fun sz => tk_X3_tells h) (cwV 1 C.t (lw_V q2570 q2572 qs82 q130 q2573) rfl rfl rfl ⟨rfl, dmX3_tells⟩ ⟨Nat.le_of_ble_eq_true rfl, Nat.le_of_ble_eq_true rfl⟩) rfl rfl (Nat.le_of_ble_eq_true rfl) dX3_wanderers_5 (fun r5 M5 h => ?_)
  exact tm_iret C hK h dX3_wanderers_8
/-! ringAt(I)I -/
abbrev rmX3_ringAt : Room := { frames := 1, cells := 0, slots := 0, locals := 22 }
theorem dmX3_ringAt : yX3_ringAt.cls ≠ "java/lang/invoke/MethodHandle" ∧ yX3_ringAt.cls ≠ "java/lang/invoke/VarHandle" ∧ (parseMethodDescriptor yX3_ringAt.desc).map (fun d => d.parameters.length) = some 1 := by decide +kernel
def tj_X3_ringAt_42 (M : MS) (s0 : Int32) (Q : Int32 → MS → Prop) : Prop :=
  Q s0 M
theorem tb_X3_ringAt_42 {l : Launch} {p : Program} {e : Env} {s : State} {m : MethodId} {args : Array Value} {below : List Frame} {meth : Method} {c : Code} {D : va_G} {g : Nat → Nat} {cI cJ : ClassId} (C : gx_C p s m args meth c cX3_ringAt 2 (some .int) RX3) (hK : va_K D gcl [(cI, .int), (cJ, .long)] s) {M : MS} {s0 : Int32} {Q : Int32 → MS → Prop} (h : tj_X3_ringAt_42 M s0 Q)  : gx_W p l e (headSpec (ws_ yX3_ringAt cX3_ringAt 2 (some .int)) rmX3_ringAt).room s m args below meth c 2 (tm_I D g cI cJ s M) 0 0 (MQ below (va_Qi Q (tm_B D g cI cJ s.heap.size) (tm_A g s.heap.size)) args s 0 0 (tm_A g s.heap.size)) 42 [] [.int s0] := by
  unfold tj_X3_ringAt_42 at h
  exact tm_iret C hK h dX3_ringAt_42
def tw_X3_ringAt (M : MS) (a1 : Int32) (Q : Int32 → MS → Prop) : Prop :=
  (vp_in 3 754 ∧ pw_X3_within a1 0 ((ms_r M 0 3) - 1) (fun r11 => (∀ M22 : MS, M22 = ms_s M 0 (if r11 = 0 then 1 else 0) → (((M22.1 0) ≤ 0 → tw_X3_of M22 a1 0 (fun r39 M39 => tj_X3_ringAt_42 M39 r39 Q)) ∧ (¬ (M22.1 0) ≤ 0 → tj_X3_ringAt_42 M22 0 Q)))))
theorem tk_X3_ringAt {l : Launch} {D : va_G} {g : Nat → Nat} {cI cJ : ClassId} {sz : Nat} {M : MS} {a1 : Int32} {Q : Int32 → MS → Prop} (h : tw_X3_ringAt M a1 Q) : tm_Met l yX3_ringAt cX3_ringAt 2 (some .int) rmX3_ringAt [.int a1] D g cI cJ sz M (va_Qi Q (tm_B D g cI cJ sz) (tm_A g sz)) := by
  refine tm_entry (by decide) (Nat.le_of_ble_eq_true rfl) (fun p e s m args below meth c hsz C hK => ?_)
  subst hsz
  unfold tw_X3_ringAt at h
  show gx_W p l e (headSpec (ws_ yX3_ringAt cX3_ringAt 2 (some .int)) rmX3_ringAt).room s m args below meth c 2 (tm_I D g cI cJ s M) 0 0 (MQ below (va_Qi Q (tm_B D g cI cJ s.heap.size) (tm_A g s.heap.size)) args s 0 0 (tm_A g s.heap.size)) 0 [(0, .ref (g 0)), (1, .int a1)] []
  refine gx_aload_n C dX3_ringAt_0 rfl 0 rfl ?_
  refine gx_iload_n C dX3_ringAt_1 rfl 1 rfl ?_
  refine gx_iconst (v := 0) C dX3_ringAt_2 (by decide) ?_
  refine gx_aload_n C dX3_ringAt_3 rfl 0 rfl ?_
  refine tm_get C hK 1 (by decide) q2301 rfl rfl dX3_ringAt_4 ?_
  refine gx_iconst (v := 3) C dX3_ringAt_7 (by decide) ?_
  obtain ⟨g8, h⟩ := h
  refine tm_ald0 C hK g8 dX3_ringAt_8 ?_
  refine gx_iconst (v := 1) C dX3_ringAt_9 (by decide) ?_
  refine gx_isub C dX3_ringAt_10 ?_
  refine gx_calls_i (rest := [.ref (g 0)]) C (pk_X3_within h) (va_cwS 3 C.t (lw_S q2360 q2361 q130 q2362) rfl rfl rfl dmX3_within ⟨Nat.le_of_ble_eq_true rfl, Nat.le_of_ble_eq_true rfl⟩) rfl rfl (Nat.le_of_ble_eq_true rfl) ⟨Nat.zero_le _, Nat.zero_le _⟩ dX3_ringAt_11 (fun r11 h => ?_)
  refine gx_phii (t := (if r11 = 0 then 1 else 0)) (pc2 := 22) (lv2 := [(0, .ref (g 0)), (1, .int a1)]) (rest2 := [.ref (g 0)]) (fun key => ?_) ?_
  · refine gx_if_eq (tgt := 21) C dX3_ringAt_14 (by decide) (fun z1 => ?_) (fun z1 => ?_)
    · refine gx_iconst (v := 1) C dX3_ringAt_21 (by decide) ?_
      exact gx_casti (if_pos z1) key
    · refine gx_iconst (v := 0) C dX3_ringAt_17 (by decide) ?_
      refine gx_goto (tgt := 22) C dX3_ringAt_18 (by decide) ?_
      exact gx_casti (if_neg z1) key
  refine tm_put0 C hK q2300 dX3_ringAt_22 (fun M22 e_M22 => ?_)
  replace h := h M22 e_M22
  refine gx_aload_n C dX3_ringAt_25 rfl 0 rfl ?_
  refine tm_get C hK 0 (by decide) q2300 rfl rfl dX3_ringAt_26 ?_
  refine gx_if_le (tgt := 36) C dX3_ringAt_29 (by decide) (fun z => ?_) (fun z => ?_)
  · replace h := h.1 z
    refine gx_aload_n C dX3_ringAt_36 rfl 0 rfl ?_
    refine gx_iload_n C dX3_ringAt_37 rfl 1 rfl ?_
    refine gx_iconst (v := 0) C dX3_ringAt_38 (by decide) ?_
    refine tm_calli (rest := []) C hK (fun sz => tk_X3_of h) (cwV 2 C.t (lw_V q2435 q2437 qs57 q130 q2438) rfl rfl rfl ⟨rfl, dmX3_of⟩ ⟨Nat.le_of_ble_eq_true rfl, Nat.le_of_ble_eq_true rfl⟩) rfl rfl (Nat.le_of_ble_eq_true rfl) dX3_ringAt_39 (fun r39 M39 h => ?_)
    refine gx_sub [] rfl ?_
    exact tb_X3_ringAt_42 C hK h
  · replace h := h.2 z
    refine gx_iconst (v := 0) C dX3_ringAt_32 (by decide) ?_
    refine gx_goto (tgt := 42) C dX3_ringAt_33 (by decide) ?_
    refine gx_sub [] rfl ?_
    exact tb_X3_ringAt_42 C hK h
/-! rings()I -/
abbrev rmX3_rings : Room := { frames := 1, cells := 0, slots := 0, locals := 21 }
theorem dmX3_rings : yX3_rings.cls ≠ "java/lang/invoke/MethodHandle" ∧ yX3_rings.cls ≠ "java/lang/invoke/VarHandle" ∧ (parseMethodDescriptor yX3_rings.desc).map (fun d => d.parameters.length) = some 0 := by decide +kernel
def tw_X3_rings (M : MS) (Q : Int32 → MS → Prop) : Prop :=
  (vp_in 4 754 ∧ tw_X3_tells M (ms_r M 0 4) (fun r7 M7 => Q r7 M7))
theorem tk_X3_rings {l : Launch} {D : va_G} {g : Nat → Nat} {cI cJ : ClassId} {sz : Nat} {M : MS} {Q : Int32 → MS → Prop} (h : tw_X3_rings M Q) : tm_Met l yX3_rings cX3_rings 1 (some .int) rmX3_rings [] D g cI cJ sz M (va_Qi Q (tm_B D g cI cJ sz) (tm_A g sz)) := by
  refine tm_entry (by decide) (Nat.le_of_ble_eq_true rfl) (fun p e s m args below meth c hsz C hK => ?_)
  subst hsz
  unfold tw_X3_rings at h
  show gx_W p l e (headSpec (ws_ yX3_rings cX3_rings 1 (some .int)) rmX3_rings).room s m args below meth c 1 (tm_I D g cI cJ s M) 0 0 (MQ below (va_Qi Q (tm_B D g cI cJ s.heap.size) (tm_A g s.heap.size)) args s 0 0 (tm_A g s.heap.size)) 0 [(0, .ref (g 0))] []
  refine gx_aload_n C dX3_rings_0 rfl 0 rfl ?_
  refine gx_aload_n C dX3_rings_1 rfl 0 rfl ?_
  refine tm_get C hK 1 (by decide) q2301 rfl rfl dX3_rings_2 ?_
  refine gx_iconst (v := 4) C dX3_rings_5 (by decide) ?_
  obtain ⟨g6, h⟩ := h
  refine tm_ald0 C hK g6 dX3_rings_6 ?_
  refine tm_calli (rest := []) C hK (fun sz => tk_X3_tells h) (cwV 1 C.t (lw_V q2570 q2572 qs82 q130 q2573) rfl rfl rfl ⟨rfl, dmX3_tells⟩ ⟨Nat.le_of_ble_eq_true rfl, Nat.le_of_ble_eq_true rfl⟩) rfl rfl (Nat.le_of_ble_eq_true rfl) dX3_rings_7 (fun r7 M7 h => ?_)
  exact tm_iret C hK h dX3_rings_10
/-! isAlive(I)Z -/
abbrev rmX3_isAlive : Room := { frames := 2, cells := 0, slots := 0, locals := 45 }
theorem dmX3_isAlive : yX3_isAlive.cls ≠ "java/lang/invoke/MethodHandle" ∧ yX3_isAlive.cls ≠ "java/lang/invoke/VarHandle" ∧ (parseMethodDescriptor yX3_isAlive.desc).map (fun d => d.parameters.length) = some 1 := by decide +kernel
def tw_X3_isAlive (M : MS) (a1 : Int32) (Q : Int32 → MS → Prop) : Prop :=
  (∀ M2 : MS, M2 = ms_s M 0 0 → tw_X3_placeOf M2 a1 (fun r7 M7 => Q (if r7 = (-1) then 0 else 1) M7))
theorem tk_X3_isAlive {l : Launch} {D : va_G} {g : Nat → Nat} {cI cJ : ClassId} {sz : Nat} {M : MS} {a1 : Int32} {Q : Int32 → MS → Prop} (h : tw_X3_isAlive M a1 Q) : tm_Met l yX3_isAlive cX3_isAlive 2 (some .boolean) rmX3_isAlive [.int a1] D g cI cJ sz M (va_Qi Q (tm_B D g cI cJ sz) (tm_A g sz)) := by
  refine tm_entry (by decide) (Nat.le_of_ble_eq_true rfl) (fun p e s m args below meth c hsz C hK => ?_)
  subst hsz
  unfold tw_X3_isAlive at h
  show gx_W p l e (headSpec (ws_ yX3_isAlive cX3_isAlive 2 (some .boolean)) rmX3_isAlive).room s m args below meth c 2 (tm_I D g cI cJ s M) 0 0 (MQ below (va_Qi Q (tm_B D g cI cJ s.heap.size) (tm_A g s.heap.size)) args s 0 0 (tm_A g s.heap.size)) 0 [(0, .ref (g 0)), (1, .int a1)] []
  refine gx_aload_n C dX3_isAlive_0 rfl 0 rfl ?_
  refine gx_iconst (v := 0) C dX3_isAlive_1 (by decide) ?_
  refine tm_put0 C hK q2300 dX3_isAlive_2 (fun M2 e_M2 => ?_)
  replace h := h M2 e_M2
  refine gx_aload_n C dX3_isAlive_5 rfl 0 rfl ?_
  refine gx_iload_n C dX3_isAlive_6 rfl 1 rfl ?_
  refine tm_calli (rest := []) C hK (fun sz => tk_X3_placeOf h) (cwV 1 C.t (lw_V q2466 q2468 qs62 q130 q2469) rfl rfl rfl ⟨rfl, dmX3_placeOf⟩ ⟨Nat.le_of_ble_eq_true rfl, Nat.le_of_ble_eq_true rfl⟩) rfl rfl (Nat.le_of_ble_eq_true rfl) dX3_isAlive_7 (fun r7 M7 h => ?_)
  refine gx_iconst (v := (-1)) C dX3_isAlive_10 (by decide) ?_
  refine gx_phii (t := (if r7 = (-1) then 0 else 1)) (pc2 := 19) (lv2 := [(0, .ref (g 0)), (1, .int a1)]) (rest2 := []) (fun key => ?_) ?_
  · refine gx_icmp_eq (tgt := 18) C dX3_isAlive_11 (by decide) (fun z1 => ?_) (fun z1 => ?_)
    · refine gx_iconst (v := 0) C dX3_isAlive_18 (by decide) ?_
      exact gx_casti (if_pos z1) key
    · refine gx_iconst (v := 1) C dX3_isAlive_14 (by decide) ?_
      refine gx_goto (tgt := 19) C dX3_isAlive_15 (by decide) ?_
      exact gx_casti (if_neg z1) key
  exact tm_zret C hK (by repeat' (first | rfl | split)) h dX3_isAlive_19
/-! node(I)I -/
abbrev rmX3_node : Room := { frames := 2, cells := 0, slots := 0, locals := 45 }
theorem dmX3_node : yX3_node.cls ≠ "java/lang/invoke/MethodHandle" ∧ yX3_node.cls ≠ "java/lang/invoke/VarHandle" ∧ (parseMethodDescriptor yX3_node.desc).map (fun d => d.parameters.length) = some 1 := by decide +kernel
def tj_X3_node_68 (M : MS) (s0 : Int32) (Q : Int32 → MS → Prop) : Prop :=
  Q s0 M
theorem tb_X3_node_68 {l : Launch} {p : Program} {e : Env} {s : State} {m : MethodId} {args : Array Value} {below : List Frame} {meth : Method} {c : Code} {D : va_G} {g : Nat → Nat} {cI cJ : ClassId} (C : gx_C p s m args meth c cX3_node 4 (some .int) RX3) (hK : va_K D gcl [(cI, .int), (cJ, .long)] s) {M : MS} {s0 : Int32} {Q : Int32 → MS → Prop} (h : tj_X3_node_68 M s0 Q)  : gx_W p l e (headSpec (ws_ yX3_node cX3_node 4 (some .int)) rmX3_node).room s m args below meth c 4 (tm_I D g cI cJ s M) 0 0 (MQ below (va_Qi Q (tm_B D g cI cJ s.heap.size) (tm_A g s.heap.size)) args s 0 0 (tm_A g s.heap.size)) 68 [] [.int s0] := by
  unfold tj_X3_node_68 at h
  exact tm_iret C hK h dX3_node_68
def tj_X3_node_52 (M : MS) (a1 : Int32) (a2 : Int32) (s0 : Int32) (Q : Int32 → MS → Prop) : Prop :=
  ((s0 = 0 → tj_X3_node_68 M a2 Q) ∧ (¬ (s0 = 0) → tj_X3_node_68 M (40 + (a1 - a1 / 60 * 60)) Q))
theorem tb_X3_node_52 {l : Launch} {p : Program} {e : Env} {s : State} {m : MethodId} {args : Array Value} {below : List Frame} {meth : Method} {c : Code} {D : va_G} {g : Nat → Nat} {cI cJ : ClassId} (C : gx_C p s m args meth c cX3_node 4 (some .int) RX3) (hK : va_K D gcl [(cI, .int), (cJ, .long)] s) {M : MS} {a1 : Int32} {a2 : Int32} {s0 : Int32} {Q : Int32 → MS → Prop} (h : tj_X3_node_52 M a1 a2 s0 Q)  : gx_W p l e (headSpec (ws_ yX3_node cX3_node 4 (some .int)) rmX3_node).room s m args below meth c 4 (tm_I D g cI cJ s M) 0 0 (MQ below (va_Qi Q (tm_B D g cI cJ s.heap.size) (tm_A g s.heap.size)) args s 0 0 (tm_A g s.heap.size)) 52 [(1, .int a1), (2, .int a2)] [.int s0] := by
  unfold tj_X3_node_52 at h
  refine gx_istore_n (lv' := [(3, .int s0), (1, .int a1), (2, .int a2)]) C dX3_node_52 rfl (by decide) rfl ?_
  refine gx_iload_n C dX3_node_53 rfl 0 rfl ?_
  refine gx_if_eq (tgt := 67) C dX3_node_54 (by decide) (fun z => ?_) (fun z => ?_)
  · replace h := h.1 z
    refine gx_iload_n C dX3_node_67 rfl 2 rfl ?_
    refine gx_sub [] rfl ?_
    exact tb_X3_node_68 C hK h
  · replace h := h.2 z
    refine gx_bipush (v := 40) C dX3_node_57 (by decide) ?_
    refine gx_iload_n C dX3_node_59 rfl 1 rfl ?_
    refine gx_bipush (v := 60) C dX3_node_60 (by decide) ?_
    refine gx_irem C dX3_node_62 (by decide) ?_
    refine gx_iadd C dX3_node_63 ?_
    refine gx_goto (tgt := 68) C dX3_node_64 (by decide) ?_
    refine gx_sub [] rfl ?_
    exact tb_X3_node_68 C hK h
def tj_X3_node_51 (M : MS) (a1 : Int32) (a2 : Int32) (Q : Int32 → MS → Prop) : Prop :=
  tj_X3_node_52 M a1 a2 0 Q
theorem tb_X3_node_51 {l : Launch} {p : Program} {e : Env} {s : State} {m : MethodId} {args : Array Value} {below : List Frame} {meth : Method} {c : Code} {D : va_G} {g : Nat → Nat} {cI cJ : ClassId} (C : gx_C p s m args meth c cX3_node 4 (some .int) RX3) (hK : va_K D gcl [(cI, .int), (cJ, .long)] s) {M : MS} {a1 : Int32} {a2 : Int32} {Q : Int32 → MS → Prop} (h : tj_X3_node_51 M a1 a2 Q)  : gx_W p l e (headSpec (ws_ yX3_node cX3_node 4 (some .int)) rmX3_node).room s m args below meth c 4 (tm_I D g cI cJ s M) 0 0 (MQ below (va_Qi Q (tm_B D g cI cJ s.heap.size) (tm_A g s.heap.size)) args s 0 0 (tm_A g s.heap.size)) 51 [(1, .int a1), (2, .int a2)] [] := by
  unfold tj_X3_node_51 at h
  refine gx_iconst (v := 0) C dX3_node_51 (by decide) ?_
  exact tb_X3_node_52 C hK h
def tw_X3_node (M : MS) (a1 : Int32) (Q : Int32 → MS → Prop) : Prop :=
  tw_X3_placeOf M a1 (fun r2 M2 => ((r2 = (-1) → ((a1 < 0 → tj_X3_node_51 M2 a1 r2 Q) ∧ (¬ (a1 < 0) → (vp_in 4 754 ∧ ((a1 < ((ms_r M2 0 4) - 60) → tj_X3_node_51 M2 a1 r2 Q) ∧ (¬ (a1 < ((ms_r M2 0 4) - 60)) → (vp_in (394 + (5 * (a1 - a1 / 60 * 60))) 754 ∧ (((ms_r M2 0 (394 + (5 * (a1 - a1 / 60 * 60)))) = a1 → tj_X3_node_52 M2 a1 r2 1 Q) ∧ (¬ (ms_r M2 0 (394 + (5 * (a1 - a1 / 60 * 60)))) = a1 → tj_X3_node_51 M2 a1 r2 Q))))))))) ∧ (¬ (r2 = (-1)) → tj_X3_node_51 M2 a1 r2 Q)))
theorem tk_X3_node {l : Launch} {D : va_G} {g : Nat → Nat} {cI cJ : ClassId} {sz : Nat} {M : MS} {a1 : Int32} {Q : Int32 → MS → Prop} (h : tw_X3_node M a1 Q) : tm_Met l yX3_node cX3_node 4 (some .int) rmX3_node [.int a1] D g cI cJ sz M (va_Qi Q (tm_B D g cI cJ sz) (tm_A g sz)) := by
  refine tm_entry (by decide) (Nat.le_of_ble_eq_true rfl) (fun p e s m args below meth c hsz C hK => ?_)
  subst hsz
  unfold tw_X3_node at h
  show gx_W p l e (headSpec (ws_ yX3_node cX3_node 4 (some .int)) rmX3_node).room s m args below meth c 4 (tm_I D g cI cJ s M) 0 0 (MQ below (va_Qi Q (tm_B D g cI cJ s.heap.size) (tm_A g s.heap.size)) args s 0 0 (tm_A g s.heap.size)) 0 [(0, .ref (g 0)), (1, .int a1)] []
  refine gx_aload_n C dX3_node_0 rfl 0 rfl ?_
  refine gx_iload_n C dX3_node_1 rfl 1 rfl ?_
  refine tm_calli (rest := []) C hK (fun sz => tk_X3_placeOf h) (cwV 1 C.t (lw_V q2466 q2468 qs62 q130 q2469) rfl rfl rfl ⟨rfl, dmX3_placeOf⟩ ⟨Nat.le_of_ble_eq_true rfl, Nat.le_of_ble_eq_true rfl⟩) rfl rfl (Nat.le_of_ble_eq_true rfl) dX3_node_2 (fun r2 M2 h => ?_)
  refine gx_istore_n (lv' := [(2, .int r2), (0, .ref (g 0)), (1, .int a1)]) C dX3_node_5 rfl (by decide) rfl ?_
  refine gx_iload_n C dX3_node_6 rfl 0 rfl ?_
  refine gx_iconst (v := (-1)) C dX3_node_7 (by decide) ?_
  refine gx_icmp_ne (tgt := 51) C dX3_node_8 (by decide) (fun z => ?_) (fun z => ?_)
  · replace h := h.2 z
    refine gx_sub [2, 0] rfl ?_
    exact tb_X3_node_51 C hK h
  · replace h := h.1 z
    refine gx_iload_n C dX3_node_11 rfl 2 rfl ?_
    refine gx_if_lt (tgt := 51) C dX3_node_12 (by decide) (fun z => ?_) (fun z => ?_)
    · replace h := h.1 z
      refine gx_sub [2, 0] rfl ?_
      exact tb_X3_node_51 C hK h
    · replace h := h.2 z
      refine gx_iload_n C dX3_node_15 rfl 2 rfl ?_
      refine gx_aload_n C dX3_node_16 rfl 1 rfl ?_
      refine tm_get C hK 1 (by decide) q2301 rfl rfl dX3_node_17 ?_
      refine gx_iconst (v := 4) C dX3_node_20 (by decide) ?_
      obtain ⟨g21, h⟩ := h
      refine tm_ald0 C hK g21 dX3_node_21 ?_
      refine gx_bipush (v := 60) C dX3_node_22 (by decide) ?_
      refine gx_isub C dX3_node_24 ?_
      refine gx_icmp_lt (tgt := 51) C dX3_node_25 (by decide) (fun z => ?_) (fun z => ?_)
      · replace h := h.1 z
        refine gx_sub [2, 0] rfl ?_
        exact tb_X3_node_51 C hK h
      · replace h := h.2 z
        refine gx_aload_n C dX3_node_28 rfl 1 rfl ?_
        refine tm_get C hK 1 (by decide) q2301 rfl rfl dX3_node_29 ?_
        refine gx_sipush (v := 394) C dX3_node_32 (by decide) ?_
        refine gx_iconst (v := 5) C dX3_node_35 (by decide) ?_
        refine gx_iload_n C dX3_node_36 rfl 2 rfl ?_
        refine gx_bipush (v := 60) C dX3_node_37 (by decide) ?_
        refine gx_irem C dX3_node_39 (by decide) ?_
        refine gx_imul C dX3_node_40 ?_
        refine gx_iadd C dX3_node_41 ?_
        obtain ⟨g42, h⟩ := h
        refine tm_ald0 C hK g42 dX3_node_42 ?_
        refine gx_iload_n C dX3_node_43 rfl 2 rfl ?_
        refine gx_icmp_ne (tgt := 51) C dX3_node_44 (by decide) (fun z => ?_) (fun z => ?_)
        · replace h := h.2 z
          refine gx_sub [2, 0] rfl ?_
          exact tb_X3_node_51 C hK h
        · replace h := h.1 z
          refine gx_iconst (v := 1) C dX3_node_47 (by decide) ?_
          refine gx_goto (tgt := 52) C dX3_node_48 (by decide) ?_
          refine gx_sub [2, 0] rfl ?_
          exact tb_X3_node_52 C hK h
/-! ofNode(II)I -/
abbrev rmX3_ofNode : Room := { frames := 1, cells := 0, slots := 0, locals := 22 }
theorem dmX3_ofNode : yX3_ofNode.cls ≠ "java/lang/invoke/MethodHandle" ∧ yX3_ofNode.cls ≠ "java/lang/invoke/VarHandle" ∧ (parseMethodDescriptor yX3_ofNode.desc).map (fun d => d.parameters.length) = some 2 := by decide +kernel
def tj_X3_ofNode_32 (M : MS) (s0 : Int32) (Q : Int32 → MS → Prop) : Prop :=
  Q s0 M
theorem tb_X3_ofNode_32 {l : Launch} {p : Program} {e : Env} {s : State} {m : MethodId} {args : Array Value} {below : List Frame} {meth : Method} {c : Code} {D : va_G} {g : Nat → Nat} {cI cJ : ClassId} (C : gx_C p s m args meth c cX3_ofNode 3 (some .int) RX3) (hK : va_K D gcl [(cI, .int), (cJ, .long)] s) {M : MS} {s0 : Int32} {Q : Int32 → MS → Prop} (h : tj_X3_ofNode_32 M s0 Q)  : gx_W p l e (headSpec (ws_ yX3_ofNode cX3_ofNode 3 (some .int)) rmX3_ofNode).room s m args below meth c 3 (tm_I D g cI cJ s M) 0 0 (MQ below (va_Qi Q (tm_B D g cI cJ s.heap.size) (tm_A g s.heap.size)) args s 0 0 (tm_A g s.heap.size)) 32 [] [.int s0] := by
  unfold tj_X3_ofNode_32 at h
  exact tm_iret C hK h dX3_ofNode_32
def tw_X3_ofNode (M : MS) (a1 : Int32) (a2 : Int32) (Q : Int32 → MS → Prop) : Prop :=
  ((40 ≤ a1 → (vp_in ((394 + (5 * (a1 - 40))) + a2) 754 ∧ tj_X3_ofNode_32 M (ms_r M 0 ((394 + (5 * (a1 - 40))) + a2)) Q)) ∧ (¬ (40 ≤ a1) → tw_X3_of M a1 a2 (fun r9 M9 => tj_X3_ofNode_32 M9 r9 Q)))
theorem tk_X3_ofNode {l : Launch} {D : va_G} {g : Nat → Nat} {cI cJ : ClassId} {sz : Nat} {M : MS} {a1 : Int32} {a2 : Int32} {Q : Int32 → MS → Prop} (h : tw_X3_ofNode M a1 a2 Q) : tm_Met l yX3_ofNode cX3_ofNode 3 (some .int) rmX3_ofNode [.int a1, .int a2] D g cI cJ sz M (va_Qi Q (tm_B D g cI cJ sz) (tm_A g sz)) := by
  refine tm_entry (by decide) (Nat.le_of_ble_eq_true rfl) (fun p e s m args below meth c hsz C hK => ?_)
  subst hsz
  unfold tw_X3_ofNode at h
  show gx_W p l e (headSpec (ws_ yX3_ofNode cX3_ofNode 3 (some .int)) rmX3_ofNode).room s m args below meth c 3 (tm_I D g cI cJ s M) 0 0 (MQ below (va_Qi Q (tm_B D g cI cJ s.heap.size) (tm_A g s.heap.size)) args s 0 0 (tm_A g s.heap.size)) 0 [(0, .ref (g 0)), (1, .int a1), (2, .int a2)] []
  refine gx_iload_n C dX3_ofNode_0 rfl 1 rfl ?_
  refine gx_bipush (v := 40) C dX3_ofNode_1 (by decide) ?_
  refine gx_icmp_ge (tgt := 15) C dX3_ofNode_3 (by decide) (fun z => ?_) (fun z => ?_)
  · replace h := h.1 z
    refine gx_aload_n C dX3_ofNode_15 rfl 0 rfl ?_
    refine tm_get C hK 1 (by decide) q2301 rfl rfl dX3_ofNode_16 ?_
    refine gx_sipush (v := 394) C dX3_ofNode_19 (by decide) ?_
    refine gx_iconst (v := 5) C dX3_ofNode_22 (by decide) ?_
    refine gx_iload_n C dX3_ofNode_23 rfl 1 rfl ?_
    refine gx_bipush (v := 40) C dX3_ofNode_24 (by decide) ?_
    refine gx_isub C dX3_ofNode_26 ?_
    refine gx_imul C dX3_ofNode_27 ?_
    refine gx_iadd C dX3_ofNode_28 ?_
    refine gx_iload_n C dX3_ofNode_29 rfl 2 rfl ?_
    refine gx_iadd C dX3_ofNode_30 ?_
    obtain ⟨g31, h⟩ := h
    refine tm_ald0 C hK g31 dX3_ofNode_31 ?_
    refine gx_sub [] rfl ?_
    exact tb_X3_ofNode_32 C hK h
  · replace h := h.2 z
    refine gx_aload_n C dX3_ofNode_6 rfl 0 rfl ?_
    refine gx_iload_n C dX3_ofNode_7 rfl 1 rfl ?_
    refine gx_iload_n C dX3_ofNode_8 rfl 2 rfl ?_
    refine tm_calli (rest := []) C hK (fun sz => tk_X3_of h) (cwV 2 C.t (lw_V q2435 q2437 qs57 q130 q2438) rfl rfl rfl ⟨rfl, dmX3_of⟩ ⟨Nat.le_of_ble_eq_true rfl, Nat.le_of_ble_eq_true rfl⟩) rfl rfl (Nat.le_of_ble_eq_true rfl) dX3_ofNode_9 (fun r9 M9 h => ?_)
    refine gx_goto (tgt := 32) C dX3_ofNode_12 (by decide) ?_
    refine gx_sub [] rfl ?_
    exact tb_X3_ofNode_32 C hK h
/-! tellsNode(II)I -/
abbrev rmX3_tellsNode : Room := { frames := 3, cells := 0, slots := 0, locals := 68 }
theorem dmX3_tellsNode : yX3_tellsNode.cls ≠ "java/lang/invoke/MethodHandle" ∧ yX3_tellsNode.cls ≠ "java/lang/invoke/VarHandle" ∧ (parseMethodDescriptor yX3_tellsNode.desc).map (fun d => d.parameters.length) = some 2 := by decide +kernel
def tj_X3_tellsNode_37 (M : MS) (s0 : Int32) (Q : Int32 → MS → Prop) : Prop :=
  Q s0 M
theorem tb_X3_tellsNode_37 {l : Launch} {p : Program} {e : Env} {s : State} {m : MethodId} {args : Array Value} {below : List Frame} {meth : Method} {c : Code} {D : va_G} {g : Nat → Nat} {cI cJ : ClassId} (C : gx_C p s m args meth c cX3_tellsNode 4 (some .int) RX3) (hK : va_K D gcl [(cI, .int), (cJ, .long)] s) {M : MS} {s0 : Int32} {Q : Int32 → MS → Prop} (h : tj_X3_tellsNode_37 M s0 Q)  : gx_W p l e (headSpec (ws_ yX3_tellsNode cX3_tellsNode 4 (some .int)) rmX3_tellsNode).room s m args below meth c 4 (tm_I D g cI cJ s M) 0 0 (MQ below (va_Qi Q (tm_B D g cI cJ s.heap.size) (tm_A g s.heap.size)) args s 0 0 (tm_A g s.heap.size)) 37 [] [.int s0] := by
  unfold tj_X3_tellsNode_37 at h
  exact tm_iret C hK h dX3_tellsNode_37
def tw_X3_tellsNode (M : MS) (a1 : Int32) (a2 : Int32) (Q : Int32 → MS → Prop) : Prop :=
  tw_X3_node M a1 (fun r2 M2 => (∀ M17 : MS, M17 = ms_s M2 0 (if r2 = (-1) then 1 else 0) → (((M17.1 0) ≤ 0 → tw_X3_ofNode M17 r2 a2 (fun r34 M34 => tj_X3_tellsNode_37 M34 r34 Q)) ∧ (¬ (M17.1 0) ≤ 0 → tj_X3_tellsNode_37 M17 0 Q))))
theorem tk_X3_tellsNode {l : Launch} {D : va_G} {g : Nat → Nat} {cI cJ : ClassId} {sz : Nat} {M : MS} {a1 : Int32} {a2 : Int32} {Q : Int32 → MS → Prop} (h : tw_X3_tellsNode M a1 a2 Q) : tm_Met l yX3_tellsNode cX3_tellsNode 4 (some .int) rmX3_tellsNode [.int a1, .int a2] D g cI cJ sz M (va_Qi Q (tm_B D g cI cJ sz) (tm_A g sz)) := by
  refine tm_entry (by decide) (Nat.le_of_ble_eq_true rfl) (fun p e s m args below meth c hsz C hK => ?_)
  subst hsz
  unfold tw_X3_tellsNode at h
  show gx_W p l e (headSpec (ws_ yX3_tellsNode cX3_tellsNode 4 (some .int)) rmX3_tellsNode).room s m args below meth c 4 (tm_I D g cI cJ s M) 0 0 (MQ below (va_Qi Q (tm_B D g cI cJ s.heap.size) (tm_A g s.heap.size)) args s 0 0 (tm_A g s.heap.size)) 0 [(0, .ref (g 0)), (1, .int a1), (2, .int a2)] []
  refine gx_aload_n C dX3_tellsNode_0 rfl 0 rfl ?_
  refine gx_iload_n C dX3_tellsNode_1 rfl 1 rfl ?_
  refine tm_calli (rest := []) C hK (fun sz => tk_X3_node h) (cwV 1 C.t (lw_V q2698 q2700 qs89 q130 q2701) rfl rfl rfl ⟨rfl, dmX3_node⟩ ⟨Nat.le_of_ble_eq_true rfl, Nat.le_of_ble_eq_true rfl⟩) rfl rfl (Nat.le_of_ble_eq_true rfl) dX3_tellsNode_2 (fun r2 M2 h => ?_)
  refine gx_istore_n (lv' := [(3, .int r2), (0, .ref (g 0)), (1, .int a1), (2, .int a2)]) C dX3_tellsNode_5 rfl (by decide) rfl ?_
  refine gx_aload_n C dX3_tellsNode_6 rfl 1 rfl ?_
  refine gx_iload_n C dX3_tellsNode_7 rfl 0 rfl ?_
  refine gx_iconst (v := (-1)) C dX3_tellsNode_8 (by decide) ?_
  refine gx_phii (t := (if r2 = (-1) then 1 else 0)) (pc2 := 17) (lv2 := [(3, .int r2), (0, .ref (g 0)), (1, .int a1), (2, .int a2)]) (rest2 := [.ref (g 0)]) (fun key => ?_) ?_
  · refine gx_icmp_ne (tgt := 16) C dX3_tellsNode_9 (by decide) (fun z1 => ?_) (fun z1 => ?_)
    · refine gx_iconst (v := 0) C dX3_tellsNode_16 (by decide) ?_
      exact gx_casti (if_neg z1) key
    · refine gx_iconst (v := 1) C dX3_tellsNode_12 (by decide) ?_
      refine gx_goto (tgt := 17) C dX3_tellsNode_13 (by decide) ?_
      exact gx_casti (if_pos z1) key
  refine tm_put0 C hK q2300 dX3_tellsNode_17 (fun M17 e_M17 => ?_)
  replace h := h M17 e_M17
  refine gx_aload_n C dX3_tellsNode_20 rfl 1 rfl ?_
  refine tm_get C hK 0 (by decide) q2300 rfl rfl dX3_tellsNode_21 ?_
  refine gx_if_le (tgt := 31) C dX3_tellsNode_24 (by decide) (fun z => ?_) (fun z => ?_)
  · replace h := h.1 z
    refine gx_aload_n C dX3_tellsNode_31 rfl 1 rfl ?_
    refine gx_iload_n C dX3_tellsNode_32 rfl 0 rfl ?_
    refine gx_iload_n C dX3_tellsNode_33 rfl 3 rfl ?_
    refine tm_calli (rest := []) C hK (fun sz => tk_X3_ofNode h) (cwV 2 C.t (lw_V q2702 q2704 qs90 q130 q2705) rfl rfl rfl ⟨rfl, dmX3_ofNode⟩ ⟨Nat.le_of_ble_eq_true rfl, Nat.le_of_ble_eq_true rfl⟩) rfl rfl (Nat.le_of_ble_eq_true rfl) dX3_tellsNode_34 (fun r34 M34 h => ?_)
    refine gx_sub [] rfl ?_
    exact tb_X3_tellsNode_37 C hK h
  · replace h := h.2 z
    refine gx_iconst (v := 0) C dX3_tellsNode_27 (by decide) ?_
    refine gx_goto (tgt := 37) C dX3_tellsNode_28 (by decide) ?_
    refine gx_sub [] rfl ?_
    exact tb_X3_tellsNode_37 C hK h
/-! sexOf(I)I -/
abbrev rmX3_sexOf : Room := { frames := 4, cells := 0, slots := 0, locals := 91 }
theorem dmX3_sexOf : yX3_sexOf.cls ≠ "java/lang/invoke/MethodHandle" ∧ yX3_sexOf.cls ≠ "java/lang/invoke/VarHandle" ∧ (parseMethodDescriptor yX3_sexOf.desc).map (fun d => d.parameters.length) = some 1 := by decide +kernel
def tw_X3_sexOf (M : MS) (a1 : Int32) (Q : Int32 → MS → Prop) : Prop :=
  tw_X3_tellsNode M a1 1 (fun r3 M3 => Q r3 M3)
theorem tk_X3_sexOf {l : Launch} {D : va_G} {g : Nat → Nat} {cI cJ : ClassId} {sz : Nat} {M : MS} {a1 : Int32} {Q : Int32 → MS → Prop} (h : tw_X3_sexOf M a1 Q) : tm_Met l yX3_sexOf cX3_sexOf 2 (some .int) rmX3_sexOf [.int a1] D g cI cJ sz M (va_Qi Q (tm_B D g cI cJ sz) (tm_A g sz)) := by
  refine tm_entry (by decide) (Nat.le_of_ble_eq_true rfl) (fun p e s m args below meth c hsz C hK => ?_)
  subst hsz
  unfold tw_X3_sexOf at h
  show gx_W p l e (headSpec (ws_ yX3_sexOf cX3_sexOf 2 (some .int)) rmX3_sexOf).room s m args below meth c 2 (tm_I D g cI cJ s M) 0 0 (MQ below (va_Qi Q (tm_B D g cI cJ s.heap.size) (tm_A g s.heap.size)) args s 0 0 (tm_A g s.heap.size)) 0 [(0, .ref (g 0)), (1, .int a1)] []
  refine gx_aload_n C dX3_sexOf_0 rfl 0 rfl ?_
  refine gx_iload_n C dX3_sexOf_1 rfl 1 rfl ?_
  refine gx_iconst (v := 1) C dX3_sexOf_2 (by decide) ?_
  refine tm_calli (rest := []) C hK (fun sz => tk_X3_tellsNode h) (cwV 2 C.t (lw_V q2694 q2696 qs88 q130 q2697) rfl rfl rfl ⟨rfl, dmX3_tellsNode⟩ ⟨Nat.le_of_ble_eq_true rfl, Nat.le_of_ble_eq_true rfl⟩) rfl rfl (Nat.le_of_ble_eq_true rfl) dX3_sexOf_3 (fun r3 M3 h => ?_)
  exact tm_iret C hK h dX3_sexOf_6
/-! ageOf(I)I -/
abbrev rmX3_ageOf : Room := { frames := 4, cells := 0, slots := 0, locals := 91 }
theorem dmX3_ageOf : yX3_ageOf.cls ≠ "java/lang/invoke/MethodHandle" ∧ yX3_ageOf.cls ≠ "java/lang/invoke/VarHandle" ∧ (parseMethodDescriptor yX3_ageOf.desc).map (fun d => d.parameters.length) = some 1 := by decide +kernel
def tw_X3_ageOf (M : MS) (a1 : Int32) (Q : Int32 → MS → Prop) : Prop :=
  tw_X3_tellsNode M a1 2 (fun r3 M3 => Q r3 M3)
theorem tk_X3_ageOf {l : Launch} {D : va_G} {g : Nat → Nat} {cI cJ : ClassId} {sz : Nat} {M : MS} {a1 : Int32} {Q : Int32 → MS → Prop} (h : tw_X3_ageOf M a1 Q) : tm_Met l yX3_ageOf cX3_ageOf 2 (some .int) rmX3_ageOf [.int a1] D g cI cJ sz M (va_Qi Q (tm_B D g cI cJ sz) (tm_A g sz)) := by
  refine tm_entry (by decide) (Nat.le_of_ble_eq_true rfl) (fun p e s m args below meth c hsz C hK => ?_)
  subst hsz
  unfold tw_X3_ageOf at h
  show gx_W p l e (headSpec (ws_ yX3_ageOf cX3_ageOf 2 (some .int)) rmX3_ageOf).room s m args below meth c 2 (tm_I D g cI cJ s M) 0 0 (MQ below (va_Qi Q (tm_B D g cI cJ s.heap.size) (tm_A g s.heap.size)) args s 0 0 (tm_A g s.heap.size)) 0 [(0, .ref (g 0)), (1, .int a1)] []
  refine gx_aload_n C dX3_ageOf_0 rfl 0 rfl ?_
  refine gx_iload_n C dX3_ageOf_1 rfl 1 rfl ?_
  refine gx_iconst (v := 2) C dX3_ageOf_2 (by decide) ?_
  refine tm_calli (rest := []) C hK (fun sz => tk_X3_tellsNode h) (cwV 2 C.t (lw_V q2694 q2696 qs88 q130 q2697) rfl rfl rfl ⟨rfl, dmX3_tellsNode⟩ ⟨Nat.le_of_ble_eq_true rfl, Nat.le_of_ble_eq_true rfl⟩) rfl rfl (Nat.le_of_ble_eq_true rfl) dX3_ageOf_3 (fun r3 M3 h => ?_)
  exact tm_iret C hK h dX3_ageOf_6
/-! boxOf(I)I -/
abbrev rmX3_boxOf : Room := { frames := 2, cells := 0, slots := 0, locals := 45 }
theorem dmX3_boxOf : yX3_boxOf.cls ≠ "java/lang/invoke/MethodHandle" ∧ yX3_boxOf.cls ≠ "java/lang/invoke/VarHandle" ∧ (parseMethodDescriptor yX3_boxOf.desc).map (fun d => d.parameters.length) = some 1 := by decide +kernel
def tj_X3_boxOf_37 (M : MS) (s0 : Int32) (Q : Int32 → MS → Prop) : Prop :=
  Q s0 M
theorem tb_X3_boxOf_37 {l : Launch} {p : Program} {e : Env} {s : State} {m : MethodId} {args : Array Value} {below : List Frame} {meth : Method} {c : Code} {D : va_G} {g : Nat → Nat} {cI cJ : ClassId} (C : gx_C p s m args meth c cX3_boxOf 3 (some .int) RX3) (hK : va_K D gcl [(cI, .int), (cJ, .long)] s) {M : MS} {s0 : Int32} {Q : Int32 → MS → Prop} (h : tj_X3_boxOf_37 M s0 Q)  : gx_W p l e (headSpec (ws_ yX3_boxOf cX3_boxOf 3 (some .int)) rmX3_boxOf).room s m args below meth c 3 (tm_I D g cI cJ s M) 0 0 (MQ below (va_Qi Q (tm_B D g cI cJ s.heap.size) (tm_A g s.heap.size)) args s 0 0 (tm_A g s.heap.size)) 37 [] [.int s0] := by
  unfold tj_X3_boxOf_37 at h
  exact tm_iret C hK h dX3_boxOf_37
def tw_X3_boxOf (M : MS) (a1 : Int32) (Q : Int32 → MS → Prop) : Prop :=
  tw_X3_placeOf M a1 (fun r2 M2 => (∀ M17 : MS, M17 = ms_s M2 0 (if r2 = (-1) then 1 else 0) → (((M17.1 0) ≤ 0 → tw_X3_of M17 r2 5 (fun r34 M34 => tj_X3_boxOf_37 M34 r34 Q)) ∧ (¬ (M17.1 0) ≤ 0 → tj_X3_boxOf_37 M17 0 Q))))
theorem tk_X3_boxOf {l : Launch} {D : va_G} {g : Nat → Nat} {cI cJ : ClassId} {sz : Nat} {M : MS} {a1 : Int32} {Q : Int32 → MS → Prop} (h : tw_X3_boxOf M a1 Q) : tm_Met l yX3_boxOf cX3_boxOf 3 (some .int) rmX3_boxOf [.int a1] D g cI cJ sz M (va_Qi Q (tm_B D g cI cJ sz) (tm_A g sz)) := by
  refine tm_entry (by decide) (Nat.le_of_ble_eq_true rfl) (fun p e s m args below meth c hsz C hK => ?_)
  subst hsz
  unfold tw_X3_boxOf at h
  show gx_W p l e (headSpec (ws_ yX3_boxOf cX3_boxOf 3 (some .int)) rmX3_boxOf).room s m args below meth c 3 (tm_I D g cI cJ s M) 0 0 (MQ below (va_Qi Q (tm_B D g cI cJ s.heap.size) (tm_A g s.heap.size)) args s 0 0 (tm_A g s.heap.size)) 0 [(0, .ref (g 0)), (1, .int a1)] []
  refine gx_aload_n C dX3_boxOf_0 rfl 0 rfl ?_
  refine gx_iload_n C dX3_boxOf_1 rfl 1 rfl ?_
  refine tm_calli (rest := []) C hK (fun sz => tk_X3_placeOf h) (cwV 1 C.t (lw_V q2466 q2468 qs62 q130 q2469) rfl rfl rfl ⟨rfl, dmX3_placeOf⟩ ⟨Nat.le_of_ble_eq_true rfl, Nat.le_of_ble_eq_true rfl⟩) rfl rfl (Nat.le_of_ble_eq_true rfl) dX3_boxOf_2 (fun r2 M2 h => ?_)
  refine gx_istore_n (lv' := [(2, .int r2), (0, .ref (g 0)), (1, .int a1)]) C dX3_boxOf_5 rfl (by decide) rfl ?_
  refine gx_aload_n C dX3_boxOf_6 rfl 1 rfl ?_
  refine gx_iload_n C dX3_boxOf_7 rfl 0 rfl ?_
  refine gx_iconst (v := (-1)) C dX3_boxOf_8 (by decide) ?_
  refine gx_phii (t := (if r2 = (-1) then 1 else 0)) (pc2 := 17) (lv2 := [(2, .int r2), (0, .ref (g 0)), (1, .int a1)]) (rest2 := [.ref (g 0)]) (fun key => ?_) ?_
  · refine gx_icmp_ne (tgt := 16) C dX3_boxOf_9 (by decide) (fun z1 => ?_) (fun z1 => ?_)
    · refine gx_iconst (v := 0) C dX3_boxOf_16 (by decide) ?_
      exact gx_casti (if_neg z1) key
    · refine gx_iconst (v := 1) C dX3_boxOf_12 (by decide) ?_
      refine gx_goto (tgt := 17) C dX3_boxOf_13 (by decide) ?_
      exact gx_casti (if_pos z1) key
  refine tm_put0 C hK q2300 dX3_boxOf_17 (fun M17 e_M17 => ?_)
  replace h := h M17 e_M17
  refine gx_aload_n C dX3_boxOf_20 rfl 1 rfl ?_
  refine tm_get C hK 0 (by decide) q2300 rfl rfl dX3_boxOf_21 ?_
  refine gx_if_le (tgt := 31) C dX3_boxOf_24 (by decide) (fun z => ?_) (fun z => ?_)
  · replace h := h.1 z
    refine gx_aload_n C dX3_boxOf_31 rfl 1 rfl ?_
    refine gx_iload_n C dX3_boxOf_32 rfl 0 rfl ?_
    refine gx_iconst (v := 5) C dX3_boxOf_33 (by decide) ?_
    refine tm_calli (rest := []) C hK (fun sz => tk_X3_of h) (cwV 2 C.t (lw_V q2435 q2437 qs57 q130 q2438) rfl rfl rfl ⟨rfl, dmX3_of⟩ ⟨Nat.le_of_ble_eq_true rfl, Nat.le_of_ble_eq_true rfl⟩) rfl rfl (Nat.le_of_ble_eq_true rfl) dX3_boxOf_34 (fun r34 M34 h => ?_)
    refine gx_sub [] rfl ?_
    exact tb_X3_boxOf_37 C hK h
  · replace h := h.2 z
    refine gx_iconst (v := 0) C dX3_boxOf_27 (by decide) ?_
    refine gx_goto (tgt := 37) C dX3_boxOf_28 (by decide) ?_
    refine gx_sub [] rfl ?_
    exact tb_X3_boxOf_37 C hK h
/-! eldest()I -/
abbrev rmX3_eldest : Room := { frames := 1, cells := 0, slots := 0, locals := 22 }
theorem dmX3_eldest : yX3_eldest.cls ≠ "java/lang/invoke/MethodHandle" ∧ yX3_eldest.cls ≠ "java/lang/invoke/VarHandle" ∧ (parseMethodDescriptor yX3_eldest.desc).map (fun d => d.parameters.length) = some 0 := by decide +kernel
def tj_X3_eldest_61 (M : MS) (s0 : Int32) (Q : Int32 → MS → Prop) : Prop :=
  Q s0 M
theorem tb_X3_eldest_61 {l : Launch} {p : Program} {e : Env} {s : State} {m : MethodId} {args : Array Value} {below : List Frame} {meth : Method} {c : Code} {D : va_G} {g : Nat → Nat} {cI cJ : ClassId} (C : gx_C p s m args meth c cX3_eldest 3 (some .int) RX3) (hK : va_K D gcl [(cI, .int), (cJ, .long)] s) {M : MS} {s0 : Int32} {Q : Int32 → MS → Prop} (h : tj_X3_eldest_61 M s0 Q)  : gx_W p l e (headSpec (ws_ yX3_eldest cX3_eldest 3 (some .int)) rmX3_eldest).room s m args below meth c 3 (tm_I D g cI cJ s M) 0 0 (MQ below (va_Qi Q (tm_B D g cI cJ s.heap.size) (tm_A g s.heap.size)) args s 0 0 (tm_A g s.heap.size)) 61 [] [.int s0] := by
  unfold tj_X3_eldest_61 at h
  exact tm_iret C hK h dX3_eldest_61
def tj_X3_eldest_39 (M : MS) (a2 : Int32) (s0 : Int32) (k4 : MS → Int32 → Int32 → Prop) (Q : Int32 → MS → Prop) : Prop :=
  k4 M s0 (a2 + 1)
theorem tb_X3_eldest_39 {l : Launch} {p : Program} {e : Env} {s : State} {m : MethodId} {args : Array Value} {below : List Frame} {meth : Method} {c : Code} {D : va_G} {g : Nat → Nat} {cI cJ : ClassId} (C : gx_C p s m args meth c cX3_eldest 3 (some .int) RX3) (hK : va_K D gcl [(cI, .int), (cJ, .long)] s) {M : MS} {a2 : Int32} {s0 : Int32} {k4 : MS → Int32 → Int32 → Prop} {Q : Int32 → MS → Prop} (h : tj_X3_eldest_39 M a2 s0 k4 Q) (hk4 : ∀ (M : MS) (a1 : Int32) (a2 : Int32), k4 M a1 a2 → gx_W p l e (headSpec (ws_ yX3_eldest cX3_eldest 3 (some .int)) rmX3_eldest).room s m args below meth c 3 (tm_I D g cI cJ s M) 0 0 (MQ below (va_Qi Q (tm_B D g cI cJ s.heap.size) (tm_A g s.heap.size)) args s 0 0 (tm_A g s.heap.size)) 4 [(0, .ref (g 0)), (1, .int a1), (2, .int a2)] []) : gx_W p l e (headSpec (ws_ yX3_eldest cX3_eldest 3 (some .int)) rmX3_eldest).room s m args below meth c 3 (tm_I D g cI cJ s M) 0 0 (MQ below (va_Qi Q (tm_B D g cI cJ s.heap.size) (tm_A g s.heap.size)) args s 0 0 (tm_A g s.heap.size)) 39 [(0, .ref (g 0)), (2, .int a2)] [.int s0] := by
  unfold tj_X3_eldest_39 at h
  refine gx_istore_n (lv' := [(1, .int s0), (0, .ref (g 0)), (2, .int a2)]) C dX3_eldest_39 rfl (by decide) rfl ?_
  refine gx_iinc (v := a2 + 1) (k := 2) (lv' := [(2, .int (a2 + 1)), (1, .int s0), (0, .ref (g 0))]) C dX3_eldest_40 rfl rfl (by decide) rfl ?_
  refine gx_goto (tgt := 4) C dX3_eldest_43 (by decide) ?_
  refine gx_sub [2, 1, 0] rfl ?_
  exact hk4 M s0 (a2 + 1) h
def tj_X3_eldest_34 (M : MS) (a2 : Int32) (k4 : MS → Int32 → Int32 → Prop) (Q : Int32 → MS → Prop) : Prop :=
  tj_X3_eldest_39 M a2 a2 k4 Q
theorem tb_X3_eldest_34 {l : Launch} {p : Program} {e : Env} {s : State} {m : MethodId} {args : Array Value} {below : List Frame} {meth : Method} {c : Code} {D : va_G} {g : Nat → Nat} {cI cJ : ClassId} (C : gx_C p s m args meth c cX3_eldest 3 (some .int) RX3) (hK : va_K D gcl [(cI, .int), (cJ, .long)] s) {M : MS} {a2 : Int32} {k4 : MS → Int32 → Int32 → Prop} {Q : Int32 → MS → Prop} (h : tj_X3_eldest_34 M a2 k4 Q) (hk4 : ∀ (M : MS) (a1 : Int32) (a2 : Int32), k4 M a1 a2 → gx_W p l e (headSpec (ws_ yX3_eldest cX3_eldest 3 (some .int)) rmX3_eldest).room s m args below meth c 3 (tm_I D g cI cJ s M) 0 0 (MQ below (va_Qi Q (tm_B D g cI cJ s.heap.size) (tm_A g s.heap.size)) args s 0 0 (tm_A g s.heap.size)) 4 [(0, .ref (g 0)), (1, .int a1), (2, .int a2)] []) : gx_W p l e (headSpec (ws_ yX3_eldest cX3_eldest 3 (some .int)) rmX3_eldest).room s m args below meth c 3 (tm_I D g cI cJ s M) 0 0 (MQ below (va_Qi Q (tm_B D g cI cJ s.heap.size) (tm_A g s.heap.size)) args s 0 0 (tm_A g s.heap.size)) 34 [(0, .ref (g 0)), (2, .int a2)] [] := by
  unfold tj_X3_eldest_34 at h
  refine gx_iload_n C dX3_eldest_34 rfl 1 rfl ?_
  refine gx_goto (tgt := 39) C dX3_eldest_35 (by decide) ?_
  exact tb_X3_eldest_39 C hK h hk4
def tj_X3_eldest_4 (M : MS) (a1 : Int32) (a2 : Int32) (k4 : MS → Int32 → Int32 → Prop) (Q : Int32 → MS → Prop) : Prop :=
  (vp_in 3 754 ∧ (((ms_r M 0 3) ≤ a2 → ((a1 = (-1) → tj_X3_eldest_61 M (-1) Q) ∧ (¬ (a1 = (-1)) → tw_X3_of M a1 0 (fun r58 M58 => tj_X3_eldest_61 M58 r58 Q)))) ∧ (¬ (ms_r M 0 3) ≤ a2 → ((a1 = (-1) → tj_X3_eldest_34 M a2 k4 Q) ∧ (¬ (a1 = (-1)) → tw_X3_of M a2 2 (fun r22 M22 => tw_X3_of M22 a1 2 (fun r28 M28 => ((r22 ≤ r28 → tj_X3_eldest_39 M28 a2 a1 k4 Q) ∧ (¬ (r22 ≤ r28) → tj_X3_eldest_34 M28 a2 k4 Q)))))))))
theorem tb_X3_eldest_4 {l : Launch} {p : Program} {e : Env} {s : State} {m : MethodId} {args : Array Value} {below : List Frame} {meth : Method} {c : Code} {D : va_G} {g : Nat → Nat} {cI cJ : ClassId} (C : gx_C p s m args meth c cX3_eldest 3 (some .int) RX3) (hK : va_K D gcl [(cI, .int), (cJ, .long)] s) {M : MS} {a1 : Int32} {a2 : Int32} {k4 : MS → Int32 → Int32 → Prop} {Q : Int32 → MS → Prop} (h : tj_X3_eldest_4 M a1 a2 k4 Q) (hk4 : ∀ (M : MS) (a1 : Int32) (a2 : Int32), k4 M a1 a2 → gx_W p l e (headSpec (ws_ yX3_eldest cX3_eldest 3 (some .int)) rmX3_eldest).room s m args below meth c 3 (tm_I D g cI cJ s M) 0 0 (MQ below (va_Qi Q (tm_B D g cI cJ s.heap.size) (tm_A g s.heap.size)) args s 0 0 (tm_A g s.heap.size)) 4 [(0, .ref (g 0)), (1, .int a1), (2, .int a2)] []) : gx_W p l e (headSpec (ws_ yX3_eldest cX3_eldest 3 (some .int)) rmX3_eldest).room s m args below meth c 3 (tm_I D g cI cJ s M) 0 0 (MQ below (va_Qi Q (tm_B D g cI cJ s.heap.size) (tm_A g s.heap.size)) args s 0 0 (tm_A g s.heap.size)) 4 [(0, .ref (g 0)), (1, .int a1), (2, .int a2)] [] := by
  unfold tj_X3_eldest_4 at h
  refine gx_iload_n C dX3_eldest_4 rfl 2 rfl ?_
  refine gx_aload_n C dX3_eldest_5 rfl 0 rfl ?_
  refine tm_get C hK 1 (by decide) q2301 rfl rfl dX3_eldest_6 ?_
  refine gx_iconst (v := 3) C dX3_eldest_9 (by decide) ?_
  obtain ⟨g10, h⟩ := h
  refine tm_ald0 C hK g10 dX3_eldest_10 ?_
  refine gx_icmp_ge (tgt := 46) C dX3_eldest_11 (by decide) (fun z => ?_) (fun z => ?_)
  · replace h := h.1 z
    refine gx_iload_n C dX3_eldest_46 rfl 1 rfl ?_
    refine gx_iconst (v := (-1)) C dX3_eldest_47 (by decide) ?_
    refine gx_icmp_ne (tgt := 55) C dX3_eldest_48 (by decide) (fun z => ?_) (fun z => ?_)
    · replace h := h.2 z
      refine gx_aload_n C dX3_eldest_55 rfl 0 rfl ?_
      refine gx_iload_n C dX3_eldest_56 rfl 1 rfl ?_
      refine gx_iconst (v := 0) C dX3_eldest_57 (by decide) ?_
      refine tm_calli (rest := []) C hK (fun sz => tk_X3_of h) (cwV 2 C.t (lw_V q2435 q2437 qs57 q130 q2438) rfl rfl rfl ⟨rfl, dmX3_of⟩ ⟨Nat.le_of_ble_eq_true rfl, Nat.le_of_ble_eq_true rfl⟩) rfl rfl (Nat.le_of_ble_eq_true rfl) dX3_eldest_58 (fun r58 M58 h => ?_)
      refine gx_sub [] rfl ?_
      exact tb_X3_eldest_61 C hK h
    · replace h := h.1 z
      refine gx_iconst (v := (-1)) C dX3_eldest_51 (by decide) ?_
      refine gx_goto (tgt := 61) C dX3_eldest_52 (by decide) ?_
      refine gx_sub [] rfl ?_
      exact tb_X3_eldest_61 C hK h
  · replace h := h.2 z
    refine gx_iload_n C dX3_eldest_14 rfl 1 rfl ?_
    refine gx_iconst (v := (-1)) C dX3_eldest_15 (by decide) ?_
    refine gx_icmp_eq (tgt := 34) C dX3_eldest_16 (by decide) (fun z => ?_) (fun z => ?_)
    · replace h := h.1 z
      refine gx_sub [0, 2] rfl ?_
      exact tb_X3_eldest_34 C hK h hk4
    · replace h := h.2 z
      refine gx_aload_n C dX3_eldest_19 rfl 0 rfl ?_
      refine gx_iload_n C dX3_eldest_20 rfl 2 rfl ?_
      refine gx_iconst (v := 2) C dX3_eldest_21 (by decide) ?_
      refine tm_calli (rest := []) C hK (fun sz => tk_X3_of h) (cwV 2 C.t (lw_V q2435 q2437 qs57 q130 q2438) rfl rfl rfl ⟨rfl, dmX3_of⟩ ⟨Nat.le_of_ble_eq_true rfl, Nat.le_of_ble_eq_true rfl⟩) rfl rfl (Nat.le_of_ble_eq_true rfl) dX3_eldest_22 (fun r22 M22 h => ?_)
      refine gx_aload_n C dX3_eldest_25 rfl 0 rfl ?_
      refine gx_iload_n C dX3_eldest_26 rfl 1 rfl ?_
      refine gx_iconst (v := 2) C dX3_eldest_27 (by decide) ?_
      refine tm_calli (rest := [.int r22]) C hK (fun sz => tk_X3_of h) (cwV 2 C.t (lw_V q2435 q2437 qs57 q130 q2438) rfl rfl rfl ⟨rfl, dmX3_of⟩ ⟨Nat.le_of_ble_eq_true rfl, Nat.le_of_ble_eq_true rfl⟩) rfl rfl (Nat.le_of_ble_eq_true rfl) dX3_eldest_28 (fun r28 M28 h => ?_)
      refine gx_icmp_le (tgt := 38) C dX3_eldest_31 (by decide) (fun z => ?_) (fun z => ?_)
      · replace h := h.1 z
        refine gx_iload_n C dX3_eldest_38 rfl 1 rfl ?_
        refine gx_sub [0, 2] rfl ?_
        exact tb_X3_eldest_39 C hK h hk4
      · replace h := h.2 z
        refine gx_sub [0, 2] rfl ?_
        exact tb_X3_eldest_34 C hK h hk4
def tl_X3_eldest_4 (Q : Int32 → MS → Prop) : Nat → MS → Int32 → Int32 → Prop
  | 0, _, _, _ => False
  | n + 1, M, a1, a2 => tj_X3_eldest_4 M a1 a2 (fun M a1 a2 => tl_X3_eldest_4 Q n M a1 a2) Q
theorem te_X3_eldest_4 {l : Launch} {p : Program} {e : Env} {s : State} {m : MethodId} {args : Array Value} {below : List Frame} {meth : Method} {c : Code} {D : va_G} {g : Nat → Nat} {cI cJ : ClassId} (C : gx_C p s m args meth c cX3_eldest 3 (some .int) RX3) (hK : va_K D gcl [(cI, .int), (cJ, .long)] s) {Q : Int32 → MS → Prop}  (n : Nat) : ∀ (M : MS) (a1 : Int32) (a2 : Int32), tl_X3_eldest_4 Q n M a1 a2 → gx_W p l e (headSpec (ws_ yX3_eldest cX3_eldest 3 (some .int)) rmX3_eldest).room s m args below meth c 3 (tm_I D g cI cJ s M) 0 0 (MQ below (va_Qi Q (tm_B D g cI cJ s.heap.size) (tm_A g s.heap.size)) args s 0 0 (tm_A g s.heap.size)) 4 [(0, .ref (g 0)), (1, .int a1), (2, .int a2)] [] := by
  induction n with
  | zero => intro M a1 a2 h; exact False.elim h
  | succ n ih => intro M a1 a2 h; exact tb_X3_eldest_4 C hK (show tj_X3_eldest_4 M a1 a2 (fun M a1 a2 => tl_X3_eldest_4 Q n M a1 a2) Q from h) (fun M a1 a2 h => ih M a1 a2 h)
def tw_X3_eldest (M : MS) (Q : Int32 → MS → Prop) : Prop :=
  ∃ n : Nat, tl_X3_eldest_4 Q n M (-1) 0
theorem tk_X3_eldest {l : Launch} {D : va_G} {g : Nat → Nat} {cI cJ : ClassId} {sz : Nat} {M : MS} {Q : Int32 → MS → Prop} (h : tw_X3_eldest M Q) : tm_Met l yX3_eldest cX3_eldest 3 (some .int) rmX3_eldest [] D g cI cJ sz M (va_Qi Q (tm_B D g cI cJ sz) (tm_A g sz)) := by
  refine tm_entry (by decide) (Nat.le_of_ble_eq_true rfl) (fun p e s m args below meth c hsz C hK => ?_)
  subst hsz
  unfold tw_X3_eldest at h
  show gx_W p l e (headSpec (ws_ yX3_eldest cX3_eldest 3 (some .int)) rmX3_eldest).room s m args below meth c 3 (tm_I D g cI cJ s M) 0 0 (MQ below (va_Qi Q (tm_B D g cI cJ s.heap.size) (tm_A g s.heap.size)) args s 0 0 (tm_A g s.heap.size)) 0 [(0, .ref (g 0))] []
  refine gx_iconst (v := (-1)) C dX3_eldest_0 (by decide) ?_
  refine gx_istore_n (lv' := [(1, .int ((-1))), (0, .ref (g 0))]) C dX3_eldest_1 rfl (by decide) rfl ?_
  refine gx_iconst (v := 0) C dX3_eldest_2 (by decide) ?_
  refine gx_istore_n (lv' := [(2, .int 0), (1, .int ((-1))), (0, .ref (g 0))]) C dX3_eldest_3 rfl (by decide) rfl ?_
  refine gx_sub [2, 1, 0] rfl ?_
  obtain ⟨n, h⟩ := h
  exact te_X3_eldest_4 C hK n M (-1) 0 h
/-! oldest()I -/
abbrev rmX3_oldest : Room := { frames := 2, cells := 0, slots := 0, locals := 44 }
theorem dmX3_oldest : yX3_oldest.cls ≠ "java/lang/invoke/MethodHandle" ∧ yX3_oldest.cls ≠ "java/lang/invoke/VarHandle" ∧ (parseMethodDescriptor yX3_oldest.desc).map (fun d => d.parameters.length) = some 0 := by decide +kernel
def tw_X3_oldest (M : MS) (Q : Int32 → MS → Prop) : Prop :=
  tw_X3_eldest M (fun r2 M2 => tw_X3_tells M2 r2 (fun r5 M5 => Q r5 M5))
theorem tk_X3_oldest {l : Launch} {D : va_G} {g : Nat → Nat} {cI cJ : ClassId} {sz : Nat} {M : MS} {Q : Int32 → MS → Prop} (h : tw_X3_oldest M Q) : tm_Met l yX3_oldest cX3_oldest 1 (some .int) rmX3_oldest [] D g cI cJ sz M (va_Qi Q (tm_B D g cI cJ sz) (tm_A g sz)) := by
  refine tm_entry (by decide) (Nat.le_of_ble_eq_true rfl) (fun p e s m args below meth c hsz C hK => ?_)
  subst hsz
  unfold tw_X3_oldest at h
  show gx_W p l e (headSpec (ws_ yX3_oldest cX3_oldest 1 (some .int)) rmX3_oldest).room s m args below meth c 1 (tm_I D g cI cJ s M) 0 0 (MQ below (va_Qi Q (tm_B D g cI cJ s.heap.size) (tm_A g s.heap.size)) args s 0 0 (tm_A g s.heap.size)) 0 [(0, .ref (g 0))] []
  refine gx_aload_n C dX3_oldest_0 rfl 0 rfl ?_
  refine gx_aload_n C dX3_oldest_1 rfl 0 rfl ?_
  refine tm_calli (rest := [.ref (g 0)]) C hK (fun sz => tk_X3_eldest h) (cwV 0 C.t (lw_V q2718 q2720 qs91 q130 q2721) rfl rfl rfl ⟨rfl, dmX3_eldest⟩ ⟨Nat.le_of_ble_eq_true rfl, Nat.le_of_ble_eq_true rfl⟩) rfl rfl (Nat.le_of_ble_eq_true rfl) dX3_oldest_2 (fun r2 M2 h => ?_)
  refine tm_calli (rest := []) C hK (fun sz => tk_X3_tells h) (cwV 1 C.t (lw_V q2570 q2572 qs82 q130 q2573) rfl rfl rfl ⟨rfl, dmX3_tells⟩ ⟨Nat.le_of_ble_eq_true rfl, Nat.le_of_ble_eq_true rfl⟩) rfl rfl (Nat.le_of_ble_eq_true rfl) dX3_oldest_5 (fun r5 M5 h => ?_)
  exact tm_iret C hK h dX3_oldest_8
/-! meanAge()D -/
abbrev rmX3_meanAge : Room := { frames := 1, cells := 0, slots := 0, locals := 22 }
theorem dmX3_meanAge : yX3_meanAge.cls ≠ "java/lang/invoke/MethodHandle" ∧ yX3_meanAge.cls ≠ "java/lang/invoke/VarHandle" ∧ (parseMethodDescriptor yX3_meanAge.desc).map (fun d => d.parameters.length) = some 0 := by decide +kernel
def tj_X3_meanAge_57 (M : MS) (s0 : UInt64) (Q : UInt64 → MS → Prop) : Prop :=
  Q s0 M
theorem tb_X3_meanAge_57 {l : Launch} {p : Program} {e : Env} {s : State} {m : MethodId} {args : Array Value} {below : List Frame} {meth : Method} {c : Code} {D : va_G} {g : Nat → Nat} {cI cJ : ClassId} (C : gx_C p s m args meth c cX3_meanAge 3 (some .double) RX3) (hK : va_K D gcl [(cI, .int), (cJ, .long)] s) {M : MS} {s0 : UInt64} {Q : UInt64 → MS → Prop} (h : tj_X3_meanAge_57 M s0 Q)  : gx_W p l e (headSpec (ws_ yX3_meanAge cX3_meanAge 3 (some .double)) rmX3_meanAge).room s m args below meth c 3 (tm_I D g cI cJ s M) 0 0 (MQ below (va_Qd Q (tm_B D g cI cJ s.heap.size) (tm_A g s.heap.size)) args s 0 0 (tm_A g s.heap.size)) 57 [] [.double s0] := by
  unfold tj_X3_meanAge_57 at h
  exact tm_dret C hK h dX3_meanAge_57
def tj_X3_meanAge_9 (M : MS) (a1 : Int32) (a2 : Int32) (k9 : MS → Int32 → Int32 → Prop) (Q : UInt64 → MS → Prop) : Prop :=
  (vp_in 3 754 ∧ (((ms_r M 0 3) ≤ a2 → (vp_in 3 754 ∧ (((ms_r M 0 3) = 0 → tj_X3_meanAge_57 M FP.dconst0 Q) ∧ (¬ (ms_r M 0 3) = 0 → (vp_in 3 754 ∧ (vf_n64 (FP.ddiv (FP.i2d a1) (FP.i2d (ms_r M 0 3))) ∧ tj_X3_meanAge_57 M (FP.ddiv (FP.i2d a1) (FP.i2d (ms_r M 0 3))) Q)))))) ∧ (¬ (ms_r M 0 3) ≤ a2 → tw_X3_of M a2 2 (fun r23 M23 => k9 M23 (a1 + r23) (a2 + 1)))))
theorem tb_X3_meanAge_9 {l : Launch} {p : Program} {e : Env} {s : State} {m : MethodId} {args : Array Value} {below : List Frame} {meth : Method} {c : Code} {D : va_G} {g : Nat → Nat} {cI cJ : ClassId} (C : gx_C p s m args meth c cX3_meanAge 3 (some .double) RX3) (hK : va_K D gcl [(cI, .int), (cJ, .long)] s) {M : MS} {a1 : Int32} {a2 : Int32} {k9 : MS → Int32 → Int32 → Prop} {Q : UInt64 → MS → Prop} (h : tj_X3_meanAge_9 M a1 a2 k9 Q) (hk9 : ∀ (M : MS) (a1 : Int32) (a2 : Int32), k9 M a1 a2 → gx_W p l e (headSpec (ws_ yX3_meanAge cX3_meanAge 3 (some .double)) rmX3_meanAge).room s m args below meth c 3 (tm_I D g cI cJ s M) 0 0 (MQ below (va_Qd Q (tm_B D g cI cJ s.heap.size) (tm_A g s.heap.size)) args s 0 0 (tm_A g s.heap.size)) 9 [(0, .ref (g 0)), (1, .int a1), (2, .int a2)] []) : gx_W p l e (headSpec (ws_ yX3_meanAge cX3_meanAge 3 (some .double)) rmX3_meanAge).room s m args below meth c 3 (tm_I D g cI cJ s M) 0 0 (MQ below (va_Qd Q (tm_B D g cI cJ s.heap.size) (tm_A g s.heap.size)) args s 0 0 (tm_A g s.heap.size)) 9 [(0, .ref (g 0)), (1, .int a1), (2, .int a2)] [] := by
  unfold tj_X3_meanAge_9 at h
  refine gx_iload_n C dX3_meanAge_9 rfl 2 rfl ?_
  refine gx_aload_n C dX3_meanAge_10 rfl 0 rfl ?_
  refine tm_get C hK 1 (by decide) q2301 rfl rfl dX3_meanAge_11 ?_
  refine gx_iconst (v := 3) C dX3_meanAge_14 (by decide) ?_
  obtain ⟨g15, h⟩ := h
  refine tm_ald0 C hK g15 dX3_meanAge_15 ?_
  refine gx_icmp_ge (tgt := 34) C dX3_meanAge_16 (by decide) (fun z => ?_) (fun z => ?_)
  · replace h := h.1 z
    refine gx_aload_n C dX3_meanAge_34 rfl 0 rfl ?_
    refine tm_get C hK 1 (by decide) q2301 rfl rfl dX3_meanAge_35 ?_
    refine gx_iconst (v := 3) C dX3_meanAge_38 (by decide) ?_
    obtain ⟨g39, h⟩ := h
    refine tm_ald0 C hK g39 dX3_meanAge_39 ?_
    refine gx_if_ne (tgt := 47) C dX3_meanAge_40 (by decide) (fun z => ?_) (fun z => ?_)
    · replace h := h.2 z
      refine gx_iload_n C dX3_meanAge_47 rfl 1 rfl ?_
      refine gx_i2d C dX3_meanAge_48 ?_
      refine gx_aload_n C dX3_meanAge_49 rfl 0 rfl ?_
      refine tm_get C hK 1 (by decide) q2301 rfl rfl dX3_meanAge_50 ?_
      refine gx_iconst (v := 3) C dX3_meanAge_53 (by decide) ?_
      obtain ⟨g54, h⟩ := h
      refine tm_ald0 C hK g54 dX3_meanAge_54 ?_
      refine gx_i2d C dX3_meanAge_55 ?_
      obtain ⟨g56, h⟩ := h
      refine gx_ddiv C dX3_meanAge_56 g56 ?_
      refine gx_sub [] rfl ?_
      exact tb_X3_meanAge_57 C hK h
    · replace h := h.1 z
      refine gx_dconst0 C dX3_meanAge_43 ?_
      refine gx_goto (tgt := 57) C dX3_meanAge_44 (by decide) ?_
      refine gx_sub [] rfl ?_
      exact tb_X3_meanAge_57 C hK h
  · replace h := h.2 z
    refine gx_iload_n C dX3_meanAge_19 rfl 1 rfl ?_
    refine gx_aload_n C dX3_meanAge_20 rfl 0 rfl ?_
    refine gx_iload_n C dX3_meanAge_21 rfl 2 rfl ?_
    refine gx_iconst (v := 2) C dX3_meanAge_22 (by decide) ?_
    refine tm_calli (rest := [.int a1]) C hK (fun sz => tk_X3_of h) (cwV 2 C.t (lw_V q2435 q2437 qs57 q130 q2438) rfl rfl rfl ⟨rfl, dmX3_of⟩ ⟨Nat.le_of_ble_eq_true rfl, Nat.le_of_ble_eq_true rfl⟩) rfl rfl (Nat.le_of_ble_eq_true rfl) dX3_meanAge_23 (fun r23 M23 h => ?_)
    refine gx_iadd C dX3_meanAge_26 ?_
    refine gx_istore_n (lv' := [(1, .int (a1 + r23)), (0, .ref (g 0)), (2, .int a2)]) C dX3_meanAge_27 rfl (by decide) rfl ?_
    refine gx_iinc (v := a2 + 1) (k := 2) (lv' := [(2, .int (a2 + 1)), (1, .int (a1 + r23)), (0, .ref (g 0))]) C dX3_meanAge_28 rfl rfl (by decide) rfl ?_
    refine gx_goto (tgt := 9) C dX3_meanAge_31 (by decide) ?_
    refine gx_sub [2, 1, 0] rfl ?_
    exact hk9 M23 (a1 + r23) (a2 + 1) h
def tl_X3_meanAge_9 (Q : UInt64 → MS → Prop) : Nat → MS → Int32 → Int32 → Prop
  | 0, _, _, _ => False
  | n + 1, M, a1, a2 => tj_X3_meanAge_9 M a1 a2 (fun M a1 a2 => tl_X3_meanAge_9 Q n M a1 a2) Q
theorem te_X3_meanAge_9 {l : Launch} {p : Program} {e : Env} {s : State} {m : MethodId} {args : Array Value} {below : List Frame} {meth : Method} {c : Code} {D : va_G} {g : Nat → Nat} {cI cJ : ClassId} (C : gx_C p s m args meth c cX3_meanAge 3 (some .double) RX3) (hK : va_K D gcl [(cI, .int), (cJ, .long)] s) {Q : UInt64 → MS → Prop}  (n : Nat) : ∀ (M : MS) (a1 : Int32) (a2 : Int32), tl_X3_meanAge_9 Q n M a1 a2 → gx_W p l e (headSpec (ws_ yX3_meanAge cX3_meanAge 3 (some .double)) rmX3_meanAge).room s m args below meth c 3 (tm_I D g cI cJ s M) 0 0 (MQ below (va_Qd Q (tm_B D g cI cJ s.heap.size) (tm_A g s.heap.size)) args s 0 0 (tm_A g s.heap.size)) 9 [(0, .ref (g 0)), (1, .int a1), (2, .int a2)] [] := by
  induction n with
  | zero => intro M a1 a2 h; exact False.elim h
  | succ n ih => intro M a1 a2 h; exact tb_X3_meanAge_9 C hK (show tj_X3_meanAge_9 M a1 a2 (fun M a1 a2 => tl_X3_meanAge_9 Q n M a1 a2) Q from h) (fun M a1 a2 h => ih M a1 a2 h)
def tw_X3_meanAge (M : MS) (Q : UInt64 → MS → Prop) : Prop :=
  (∀ M2 : MS, M2 = ms_s M 0 0 → ∃ n : Nat, tl_X3_meanAge_9 Q n M2 0 0)
theorem tk_X3_meanAge {l : Launch} {D : va_G} {g : Nat → Nat} {cI cJ : ClassId} {sz : Nat} {M : MS} {Q : UInt64 → MS → Prop} (h : tw_X3_meanAge M Q) : tm_Met l yX3_meanAge cX3_meanAge 3 (some .double) rmX3_meanAge [] D g cI cJ sz M (va_Qd Q (tm_B D g cI cJ sz) (tm_A g sz)) := by
  refine tm_entry (by decide) (Nat.le_of_ble_eq_true rfl) (fun p e s m args below meth c hsz C hK => ?_)
  subst hsz
  unfold tw_X3_meanAge at h
  show gx_W p l e (headSpec (ws_ yX3_meanAge cX3_meanAge 3 (some .double)) rmX3_meanAge).room s m args below meth c 3 (tm_I D g cI cJ s M) 0 0 (MQ below (va_Qd Q (tm_B D g cI cJ s.heap.size) (tm_A g s.heap.size)) args s 0 0 (tm_A g s.heap.size)) 0 [(0, .ref (g 0))] []
  refine gx_aload_n C dX3_meanAge_0 rfl 0 rfl ?_
  refine gx_iconst (v := 0) C dX3_meanAge_1 (by decide) ?_
  refine tm_put0 C hK q2300 dX3_meanAge_2 (fun M2 e_M2 => ?_)
  replace h := h M2 e_M2
  refine gx_iconst (v := 0) C dX3_meanAge_5 (by decide) ?_
  refine gx_istore_n (lv' := [(1, .int 0), (0, .ref (g 0))]) C dX3_meanAge_6 rfl (by decide) rfl ?_
  refine gx_iconst (v := 0) C dX3_meanAge_7 (by decide) ?_
  refine gx_istore_n (lv' := [(2, .int 0), (1, .int 0), (0, .ref (g 0))]) C dX3_meanAge_8 rfl (by decide) rfl ?_
  refine gx_sub [2, 1, 0] rfl ?_
  obtain ⟨n, h⟩ := h
  exact te_X3_meanAge_9 C hK n M2 0 0 h
/-! parent(II)I -/
abbrev rmX3_parent : Room := { frames := 3, cells := 0, slots := 0, locals := 68 }
theorem dmX3_parent : yX3_parent.cls ≠ "java/lang/invoke/MethodHandle" ∧ yX3_parent.cls ≠ "java/lang/invoke/VarHandle" ∧ (parseMethodDescriptor yX3_parent.desc).map (fun d => d.parameters.length) = some 2 := by decide +kernel
def tw_X3_parent (M : MS) (a1 : Int32) (a2 : Int32) (Q : Int32 → MS → Prop) : Prop :=
  tw_X3_ofNode M a1 a2 (fun r4 M4 => tw_X3_node M4 r4 (fun r7 M7 => Q r7 M7))
theorem tk_X3_parent {l : Launch} {D : va_G} {g : Nat → Nat} {cI cJ : ClassId} {sz : Nat} {M : MS} {a1 : Int32} {a2 : Int32} {Q : Int32 → MS → Prop} (h : tw_X3_parent M a1 a2 Q) : tm_Met l yX3_parent cX3_parent 3 (some .int) rmX3_parent [.int a1, .int a2] D g cI cJ sz M (va_Qi Q (tm_B D g cI cJ sz) (tm_A g sz)) := by
  refine tm_entry (by decide) (Nat.le_of_ble_eq_true rfl) (fun p e s m args below meth c hsz C hK => ?_)
  subst hsz
  unfold tw_X3_parent at h
  show gx_W p l e (headSpec (ws_ yX3_parent cX3_parent 3 (some .int)) rmX3_parent).room s m args below meth c 3 (tm_I D g cI cJ s M) 0 0 (MQ below (va_Qi Q (tm_B D g cI cJ s.heap.size) (tm_A g s.heap.size)) args s 0 0 (tm_A g s.heap.size)) 0 [(0, .ref (g 0)), (1, .int a1), (2, .int a2)] []
  refine gx_aload_n C dX3_parent_0 rfl 0 rfl ?_
  refine gx_aload_n C dX3_parent_1 rfl 0 rfl ?_
  refine gx_iload_n C dX3_parent_2 rfl 1 rfl ?_
  refine gx_iload_n C dX3_parent_3 rfl 2 rfl ?_
  refine tm_calli (rest := [.ref (g 0)]) C hK (fun sz => tk_X3_ofNode h) (cwV 2 C.t (lw_V q2702 q2704 qs90 q130 q2705) rfl rfl rfl ⟨rfl, dmX3_ofNode⟩ ⟨Nat.le_of_ble_eq_true rfl, Nat.le_of_ble_eq_true rfl⟩) rfl rfl (Nat.le_of_ble_eq_true rfl) dX3_parent_4 (fun r4 M4 h => ?_)
  refine tm_calli (rest := []) C hK (fun sz => tk_X3_node h) (cwV 1 C.t (lw_V q2698 q2700 qs89 q130 q2701) rfl rfl rfl ⟨rfl, dmX3_node⟩ ⟨Nat.le_of_ble_eq_true rfl, Nat.le_of_ble_eq_true rfl⟩) rfl rfl (Nat.le_of_ble_eq_true rfl) dX3_parent_7 (fun r7 M7 h => ?_)
  exact tm_iret C hK h dX3_parent_10
/-! parentRing(II)I -/
abbrev rmX3_parentRing : Room := { frames := 4, cells := 0, slots := 0, locals := 90 }
theorem dmX3_parentRing : yX3_parentRing.cls ≠ "java/lang/invoke/MethodHandle" ∧ yX3_parentRing.cls ≠ "java/lang/invoke/VarHandle" ∧ (parseMethodDescriptor yX3_parentRing.desc).map (fun d => d.parameters.length) = some 2 := by decide +kernel
def tj_X3_parentRing_20 (M : MS) (s0 : Int32) (Q : Int32 → MS → Prop) : Prop :=
  Q s0 M
theorem tb_X3_parentRing_20 {l : Launch} {p : Program} {e : Env} {s : State} {m : MethodId} {args : Array Value} {below : List Frame} {meth : Method} {c : Code} {D : va_G} {g : Nat → Nat} {cI cJ : ClassId} (C : gx_C p s m args meth c cX3_parentRing 3 (some .int) RX3) (hK : va_K D gcl [(cI, .int), (cJ, .long)] s) {M : MS} {s0 : Int32} {Q : Int32 → MS → Prop} (h : tj_X3_parentRing_20 M s0 Q)  : gx_W p l e (headSpec (ws_ yX3_parentRing cX3_parentRing 3 (some .int)) rmX3_parentRing).room s m args below meth c 3 (tm_I D g cI cJ s M) 0 0 (MQ below (va_Qi Q (tm_B D g cI cJ s.heap.size) (tm_A g s.heap.size)) args s 0 0 (tm_A g s.heap.size)) 20 [] [.int s0] := by
  unfold tj_X3_parentRing_20 at h
  exact tm_iret C hK h dX3_parentRing_20
def tw_X3_parentRing (M : MS) (a1 : Int32) (a2 : Int32) (Q : Int32 → MS → Prop) : Prop :=
  tw_X3_parent M a1 a2 (fun r3 M3 => ((r3 = (-1) → tj_X3_parentRing_20 M3 (-1) Q) ∧ (¬ (r3 = (-1)) → tw_X3_ofNode M3 a1 a2 (fun r17 M17 => tj_X3_parentRing_20 M17 r17 Q))))
theorem tk_X3_parentRing {l : Launch} {D : va_G} {g : Nat → Nat} {cI cJ : ClassId} {sz : Nat} {M : MS} {a1 : Int32} {a2 : Int32} {Q : Int32 → MS → Prop} (h : tw_X3_parentRing M a1 a2 Q) : tm_Met l yX3_parentRing cX3_parentRing 3 (some .int) rmX3_parentRing [.int a1, .int a2] D g cI cJ sz M (va_Qi Q (tm_B D g cI cJ sz) (tm_A g sz)) := by
  refine tm_entry (by decide) (Nat.le_of_ble_eq_true rfl) (fun p e s m args below meth c hsz C hK => ?_)
  subst hsz
  unfold tw_X3_parentRing at h
  show gx_W p l e (headSpec (ws_ yX3_parentRing cX3_parentRing 3 (some .int)) rmX3_parentRing).room s m args below meth c 3 (tm_I D g cI cJ s M) 0 0 (MQ below (va_Qi Q (tm_B D g cI cJ s.heap.size) (tm_A g s.heap.size)) args s 0 0 (tm_A g s.heap.size)) 0 [(0, .ref (g 0)), (1, .int a1), (2, .int a2)] []
  refine gx_aload_n C dX3_parentRing_0 rfl 0 rfl ?_
  refine gx_iload_n C dX3_parentRing_1 rfl 1 rfl ?_
  refine gx_iload_n C dX3_parentRing_2 rfl 2 rfl ?_
  refine tm_calli (rest := []) C hK (fun sz => tk_X3_parent h) (cwV 2 C.t (lw_V q2738 q2740 qs94 q130 q2741) rfl rfl rfl ⟨rfl, dmX3_parent⟩ ⟨Nat.le_of_ble_eq_true rfl, Nat.le_of_ble_eq_true rfl⟩) rfl rfl (Nat.le_of_ble_eq_true rfl) dX3_parentRing_3 (fun r3 M3 h => ?_)
  refine gx_iconst (v := (-1)) C dX3_parentRing_6 (by decide) ?_
  refine gx_icmp_ne (tgt := 14) C dX3_parentRing_7 (by decide) (fun z => ?_) (fun z => ?_)
  · replace h := h.2 z
    refine gx_aload_n C dX3_parentRing_14 rfl 0 rfl ?_
    refine gx_iload_n C dX3_parentRing_15 rfl 1 rfl ?_
    refine gx_iload_n C dX3_parentRing_16 rfl 2 rfl ?_
    refine tm_calli (rest := []) C hK (fun sz => tk_X3_ofNode h) (cwV 2 C.t (lw_V q2702 q2704 qs90 q130 q2705) rfl rfl rfl ⟨rfl, dmX3_ofNode⟩ ⟨Nat.le_of_ble_eq_true rfl, Nat.le_of_ble_eq_true rfl⟩) rfl rfl (Nat.le_of_ble_eq_true rfl) dX3_parentRing_17 (fun r17 M17 h => ?_)
    refine gx_sub [] rfl ?_
    exact tb_X3_parentRing_20 C hK h
  · replace h := h.1 z
    refine gx_iconst (v := (-1)) C dX3_parentRing_10 (by decide) ?_
    refine gx_goto (tgt := 20) C dX3_parentRing_11 (by decide) ?_
    refine gx_sub [] rfl ?_
    exact tb_X3_parentRing_20 C hK h
/-! tellsParent(II)I -/
abbrev rmX3_tellsParent : Room := { frames := 5, cells := 0, slots := 0, locals := 112 }
theorem dmX3_tellsParent : yX3_tellsParent.cls ≠ "java/lang/invoke/MethodHandle" ∧ yX3_tellsParent.cls ≠ "java/lang/invoke/VarHandle" ∧ (parseMethodDescriptor yX3_tellsParent.desc).map (fun d => d.parameters.length) = some 2 := by decide +kernel
def tj_X3_tellsParent_37 (M : MS) (s0 : Int32) (Q : Int32 → MS → Prop) : Prop :=
  Q s0 M
theorem tb_X3_tellsParent_37 {l : Launch} {p : Program} {e : Env} {s : State} {m : MethodId} {args : Array Value} {below : List Frame} {meth : Method} {c : Code} {D : va_G} {g : Nat → Nat} {cI cJ : ClassId} (C : gx_C p s m args meth c cX3_tellsParent 4 (some .int) RX3) (hK : va_K D gcl [(cI, .int), (cJ, .long)] s) {M : MS} {s0 : Int32} {Q : Int32 → MS → Prop} (h : tj_X3_tellsParent_37 M s0 Q)  : gx_W p l e (headSpec (ws_ yX3_tellsParent cX3_tellsParent 4 (some .int)) rmX3_tellsParent).room s m args below meth c 4 (tm_I D g cI cJ s M) 0 0 (MQ below (va_Qi Q (tm_B D g cI cJ s.heap.size) (tm_A g s.heap.size)) args s 0 0 (tm_A g s.heap.size)) 37 [] [.int s0] := by
  unfold tj_X3_tellsParent_37 at h
  exact tm_iret C hK h dX3_tellsParent_37
def tw_X3_tellsParent (M : MS) (a1 : Int32) (a2 : Int32) (Q : Int32 → MS → Prop) : Prop :=
  tw_X3_node M a1 (fun r2 M2 => (∀ M17 : MS, M17 = ms_s M2 0 (if r2 = (-1) then 1 else 0) → (((M17.1 0) ≤ 0 → tw_X3_parentRing M17 r2 a2 (fun r34 M34 => tj_X3_tellsParent_37 M34 r34 Q)) ∧ (¬ (M17.1 0) ≤ 0 → tj_X3_tellsParent_37 M17 0 Q))))
theorem tk_X3_tellsParent {l : Launch} {D : va_G} {g : Nat → Nat} {cI cJ : ClassId} {sz : Nat} {M : MS} {a1 : Int32} {a2 : Int32} {Q : Int32 → MS → Prop} (h : tw_X3_tellsParent M a1 a2 Q) : tm_Met l yX3_tellsParent cX3_tellsParent 4 (some .int) rmX3_tellsParent [.int a1, .int a2] D g cI cJ sz M (va_Qi Q (tm_B D g cI cJ sz) (tm_A g sz)) := by
  refine tm_entry (by decide) (Nat.le_of_ble_eq_true rfl) (fun p e s m args below meth c hsz C hK => ?_)
  subst hsz
  unfold tw_X3_tellsParent at h
  show gx_W p l e (headSpec (ws_ yX3_tellsParent cX3_tellsParent 4 (some .int)) rmX3_tellsParent).room s m args below meth c 4 (tm_I D g cI cJ s M) 0 0 (MQ below (va_Qi Q (tm_B D g cI cJ s.heap.size) (tm_A g s.heap.size)) args s 0 0 (tm_A g s.heap.size)) 0 [(0, .ref (g 0)), (1, .int a1), (2, .int a2)] []
  refine gx_aload_n C dX3_tellsParent_0 rfl 0 rfl ?_
  refine gx_iload_n C dX3_tellsParent_1 rfl 1 rfl ?_
  refine tm_calli (rest := []) C hK (fun sz => tk_X3_node h) (cwV 1 C.t (lw_V q2698 q2700 qs89 q130 q2701) rfl rfl rfl ⟨rfl, dmX3_node⟩ ⟨Nat.le_of_ble_eq_true rfl, Nat.le_of_ble_eq_true rfl⟩) rfl rfl (Nat.le_of_ble_eq_true rfl) dX3_tellsParent_2 (fun r2 M2 h => ?_)
  refine gx_istore_n (lv' := [(3, .int r2), (0, .ref (g 0)), (1, .int a1), (2, .int a2)]) C dX3_tellsParent_5 rfl (by decide) rfl ?_
  refine gx_aload_n C dX3_tellsParent_6 rfl 1 rfl ?_
  refine gx_iload_n C dX3_tellsParent_7 rfl 0 rfl ?_
  refine gx_iconst (v := (-1)) C dX3_tellsParent_8 (by decide) ?_
  refine gx_phii (t := (if r2 = (-1) then 1 else 0)) (pc2 := 17) (lv2 := [(3, .int r2), (0, .ref (g 0)), (1, .int a1), (2, .int a2)]) (rest2 := [.ref (g 0)]) (fun key => ?_) ?_
  · refine gx_icmp_ne (tgt := 16) C dX3_tellsParent_9 (by decide) (fun z1 => ?_) (fun z1 => ?_)
    · refine gx_iconst (v := 0) C dX3_tellsParent_16 (by decide) ?_
      exact gx_casti (if_neg z1) key
    · refine gx_iconst (v := 1) C dX3_tellsParent_12 (by decide) ?_
      refine gx_goto (tgt := 17) C dX3_tellsParent_13 (by decide) ?_
      exact gx_casti (if_pos z1) key
  refine tm_put0 C hK q2300 dX3_tellsParent_17 (fun M17 e_M17 => ?_)
  replace h := h M17 e_M17
  refine gx_aload_n C dX3_tellsParent_20 rfl 1 rfl ?_
  refine tm_get C hK 0 (by decide) q2300 rfl rfl dX3_tellsParent_21 ?_
  refine gx_if_le (tgt := 31) C dX3_tellsParent_24 (by decide) (fun z => ?_) (fun z => ?_)
  · replace h := h.1 z
    refine gx_aload_n C dX3_tellsParent_31 rfl 1 rfl ?_
    refine gx_iload_n C dX3_tellsParent_32 rfl 0 rfl ?_
    refine gx_iload_n C dX3_tellsParent_33 rfl 3 rfl ?_
    refine tm_calli (rest := []) C hK (fun sz => tk_X3_parentRing h) (cwV 2 C.t (lw_V q2734 q2736 qs93 q130 q2737) rfl rfl rfl ⟨rfl, dmX3_parentRing⟩ ⟨Nat.le_of_ble_eq_true rfl, Nat.le_of_ble_eq_true rfl⟩) rfl rfl (Nat.le_of_ble_eq_true rfl) dX3_tellsParent_34 (fun r34 M34 h => ?_)
    refine gx_sub [] rfl ?_
    exact tb_X3_tellsParent_37 C hK h
  · replace h := h.2 z
    refine gx_iconst (v := 0) C dX3_tellsParent_27 (by decide) ?_
    refine gx_goto (tgt := 37) C dX3_tellsParent_28 (by decide) ?_
    refine gx_sub [] rfl ?_
    exact tb_X3_tellsParent_37 C hK h
/-! motherOf(I)I -/
abbrev rmX3_motherOf : Room := { frames := 6, cells := 0, slots := 0, locals := 135 }
theorem dmX3_motherOf : yX3_motherOf.cls ≠ "java/lang/invoke/MethodHandle" ∧ yX3_motherOf.cls ≠ "java/lang/invoke/VarHandle" ∧ (parseMethodDescriptor yX3_motherOf.desc).map (fun d => d.parameters.length) = some 1 := by decide +kernel
def tw_X3_motherOf (M : MS) (a1 : Int32) (Q : Int32 → MS → Prop) : Prop :=
  tw_X3_tellsParent M a1 3 (fun r3 M3 => Q r3 M3)
theorem tk_X3_motherOf {l : Launch} {D : va_G} {g : Nat → Nat} {cI cJ : ClassId} {sz : Nat} {M : MS} {a1 : Int32} {Q : Int32 → MS → Prop} (h : tw_X3_motherOf M a1 Q) : tm_Met l yX3_motherOf cX3_motherOf 2 (some .int) rmX3_motherOf [.int a1] D g cI cJ sz M (va_Qi Q (tm_B D g cI cJ sz) (tm_A g sz)) := by
  refine tm_entry (by decide) (Nat.le_of_ble_eq_true rfl) (fun p e s m args below meth c hsz C hK => ?_)
  subst hsz
  unfold tw_X3_motherOf at h
  show gx_W p l e (headSpec (ws_ yX3_motherOf cX3_motherOf 2 (some .int)) rmX3_motherOf).room s m args below meth c 2 (tm_I D g cI cJ s M) 0 0 (MQ below (va_Qi Q (tm_B D g cI cJ s.heap.size) (tm_A g s.heap.size)) args s 0 0 (tm_A g s.heap.size)) 0 [(0, .ref (g 0)), (1, .int a1)] []
  refine gx_aload_n C dX3_motherOf_0 rfl 0 rfl ?_
  refine gx_iload_n C dX3_motherOf_1 rfl 1 rfl ?_
  refine gx_iconst (v := 3) C dX3_motherOf_2 (by decide) ?_
  refine tm_calli (rest := []) C hK (fun sz => tk_X3_tellsParent h) (cwV 2 C.t (lw_V q2730 q2732 qs92 q130 q2733) rfl rfl rfl ⟨rfl, dmX3_tellsParent⟩ ⟨Nat.le_of_ble_eq_true rfl, Nat.le_of_ble_eq_true rfl⟩) rfl rfl (Nat.le_of_ble_eq_true rfl) dX3_motherOf_3 (fun r3 M3 h => ?_)
  exact tm_iret C hK h dX3_motherOf_6
/-! fatherOf(I)I -/
abbrev rmX3_fatherOf : Room := { frames := 6, cells := 0, slots := 0, locals := 135 }
theorem dmX3_fatherOf : yX3_fatherOf.cls ≠ "java/lang/invoke/MethodHandle" ∧ yX3_fatherOf.cls ≠ "java/lang/invoke/VarHandle" ∧ (parseMethodDescriptor yX3_fatherOf.desc).map (fun d => d.parameters.length) = some 1 := by decide +kernel
def tw_X3_fatherOf (M : MS) (a1 : Int32) (Q : Int32 → MS → Prop) : Prop :=
  tw_X3_tellsParent M a1 4 (fun r3 M3 => Q r3 M3)
theorem tk_X3_fatherOf {l : Launch} {D : va_G} {g : Nat → Nat} {cI cJ : ClassId} {sz : Nat} {M : MS} {a1 : Int32} {Q : Int32 → MS → Prop} (h : tw_X3_fatherOf M a1 Q) : tm_Met l yX3_fatherOf cX3_fatherOf 2 (some .int) rmX3_fatherOf [.int a1] D g cI cJ sz M (va_Qi Q (tm_B D g cI cJ sz) (tm_A g sz)) := by
  refine tm_entry (by decide) (Nat.le_of_ble_eq_true rfl) (fun p e s m args below meth c hsz C hK => ?_)
  subst hsz
  unfold tw_X3_fatherOf at h
  show gx_W p l e (headSpec (ws_ yX3_fatherOf cX3_fatherOf 2 (some .int)) rmX3_fatherOf).room s m args below meth c 2 (tm_I D g cI cJ s M) 0 0 (MQ below (va_Qi Q (tm_B D g cI cJ s.heap.size) (tm_A g s.heap.size)) args s 0 0 (tm_A g s.heap.size)) 0 [(0, .ref (g 0)), (1, .int a1)] []
  refine gx_aload_n C dX3_fatherOf_0 rfl 0 rfl ?_
  refine gx_iload_n C dX3_fatherOf_1 rfl 1 rfl ?_
  refine gx_iconst (v := 4) C dX3_fatherOf_2 (by decide) ?_
  refine tm_calli (rest := []) C hK (fun sz => tk_X3_tellsParent h) (cwV 2 C.t (lw_V q2730 q2732 qs92 q130 q2733) rfl rfl rfl ⟨rfl, dmX3_tellsParent⟩ ⟨Nat.le_of_ble_eq_true rfl, Nat.le_of_ble_eq_true rfl⟩) rfl rfl (Nat.le_of_ble_eq_true rfl) dX3_fatherOf_3 (fun r3 M3 h => ?_)
  exact tm_iret C hK h dX3_fatherOf_6
/-! isNode(I)Z -/
abbrev rmX3_isNode : Room := { frames := 3, cells := 0, slots := 0, locals := 68 }
theorem dmX3_isNode : yX3_isNode.cls ≠ "java/lang/invoke/MethodHandle" ∧ yX3_isNode.cls ≠ "java/lang/invoke/VarHandle" ∧ (parseMethodDescriptor yX3_isNode.desc).map (fun d => d.parameters.length) = some 1 := by decide +kernel
def tj_X3_isNode_57 (M : MS) (s0 : Int32) (Q : Int32 → MS → Prop) : Prop :=
  (narrow .boolean (.int s0) = .int s0 ∧ Q s0 M)
theorem tb_X3_isNode_57 {l : Launch} {p : Program} {e : Env} {s : State} {m : MethodId} {args : Array Value} {below : List Frame} {meth : Method} {c : Code} {D : va_G} {g : Nat → Nat} {cI cJ : ClassId} (C : gx_C p s m args meth c cX3_isNode 3 (some .boolean) RX3) (hK : va_K D gcl [(cI, .int), (cJ, .long)] s) {M : MS} {s0 : Int32} {Q : Int32 → MS → Prop} (h : tj_X3_isNode_57 M s0 Q)  : gx_W p l e (headSpec (ws_ yX3_isNode cX3_isNode 3 (some .boolean)) rmX3_isNode).room s m args below meth c 3 (tm_I D g cI cJ s M) 0 0 (MQ below (va_Qi Q (tm_B D g cI cJ s.heap.size) (tm_A g s.heap.size)) args s 0 0 (tm_A g s.heap.size)) 57 [] [.int s0] := by
  unfold tj_X3_isNode_57 at h
  obtain ⟨g57, h⟩ := h
  exact tm_zret C hK g57 h dX3_isNode_57
def tj_X3_isNode_56 (M : MS) (Q : Int32 → MS → Prop) : Prop :=
  tj_X3_isNode_57 M 0 Q
theorem tb_X3_isNode_56 {l : Launch} {p : Program} {e : Env} {s : State} {m : MethodId} {args : Array Value} {below : List Frame} {meth : Method} {c : Code} {D : va_G} {g : Nat → Nat} {cI cJ : ClassId} (C : gx_C p s m args meth c cX3_isNode 3 (some .boolean) RX3) (hK : va_K D gcl [(cI, .int), (cJ, .long)] s) {M : MS} {Q : Int32 → MS → Prop} (h : tj_X3_isNode_56 M Q)  : gx_W p l e (headSpec (ws_ yX3_isNode cX3_isNode 3 (some .boolean)) rmX3_isNode).room s m args below meth c 3 (tm_I D g cI cJ s M) 0 0 (MQ below (va_Qi Q (tm_B D g cI cJ s.heap.size) (tm_A g s.heap.size)) args s 0 0 (tm_A g s.heap.size)) 56 [] [] := by
  unfold tj_X3_isNode_56 at h
  refine gx_iconst (v := 0) C dX3_isNode_56 (by decide) ?_
  exact tb_X3_isNode_57 C hK h
def tw_X3_isNode (M : MS) (a1 : Int32) (Q : Int32 → MS → Prop) : Prop :=
  ((40 ≤ a1 → (vp_in (394 + (5 * (a1 - 40))) 754 ∧ (((ms_r M 0 (394 + (5 * (a1 - 40)))) = (-1) → tj_X3_isNode_56 M Q) ∧ (¬ (ms_r M 0 (394 + (5 * (a1 - 40)))) = (-1) → tw_X3_node M (ms_r M 0 (394 + (5 * (a1 - 40)))) (fun r45 M45 => ((r45 = a1 → tj_X3_isNode_57 M45 1 Q) ∧ (¬ (r45 = a1) → tj_X3_isNode_56 M45 Q))))))) ∧ (¬ (40 ≤ a1) → (vp_in 3 754 ∧ Q (if (ms_r M 0 3) ≤ a1 then 0 else 1) M)))
theorem tk_X3_isNode {l : Launch} {D : va_G} {g : Nat → Nat} {cI cJ : ClassId} {sz : Nat} {M : MS} {a1 : Int32} {Q : Int32 → MS → Prop} (h : tw_X3_isNode M a1 Q) : tm_Met l yX3_isNode cX3_isNode 3 (some .boolean) rmX3_isNode [.int a1] D g cI cJ sz M (va_Qi Q (tm_B D g cI cJ sz) (tm_A g sz)) := by
  refine tm_entry (by decide) (Nat.le_of_ble_eq_true rfl) (fun p e s m args below meth c hsz C hK => ?_)
  subst hsz
  unfold tw_X3_isNode at h
  show gx_W p l e (headSpec (ws_ yX3_isNode cX3_isNode 3 (some .boolean)) rmX3_isNode).room s m args below meth c 3 (tm_I D g cI cJ s M) 0 0 (MQ below (va_Qi Q (tm_B D g cI cJ s.heap.size) (tm_A g s.heap.size)) args s 0 0 (tm_A g s.heap.size)) 0 [(0, .ref (g 0)), (1, .int a1)] []
  refine gx_iload_n C dX3_isNode_0 rfl 1 rfl ?_
  refine gx_bipush (v := 40) C dX3_isNode_1 (by decide) ?_
  refine gx_icmp_ge (tgt := 22) C dX3_isNode_3 (by decide) (fun z => ?_) (fun z => ?_)
  · replace h := h.1 z
    refine gx_aload_n C dX3_isNode_22 rfl 0 rfl ?_
    refine tm_get C hK 1 (by decide) q2301 rfl rfl dX3_isNode_23 ?_
    refine gx_sipush (v := 394) C dX3_isNode_26 (by decide) ?_
    refine gx_iconst (v := 5) C dX3_isNode_29 (by decide) ?_
    refine gx_iload_n C dX3_isNode_30 rfl 1 rfl ?_
    refine gx_bipush (v := 40) C dX3_isNode_31 (by decide) ?_
    refine gx_isub C dX3_isNode_33 ?_
    refine gx_imul C dX3_isNode_34 ?_
    refine gx_iadd C dX3_isNode_35 ?_
    obtain ⟨g36, h⟩ := h
    refine tm_ald0 C hK g36 dX3_isNode_36 ?_
    refine gx_istore_n (lv' := [(2, .int (ms_r M 0 (394 + (5 * (a1 - 40))))), (0, .ref (g 0)), (1, .int a1)]) C dX3_isNode_37 rfl (by decide) rfl ?_
    refine gx_iload_n C dX3_isNode_38 rfl 0 rfl ?_
    refine gx_iconst (v := (-1)) C dX3_isNode_39 (by decide) ?_
    refine gx_icmp_eq (tgt := 56) C dX3_isNode_40 (by decide) (fun z => ?_) (fun z => ?_)
    · replace h := h.1 z
      refine gx_sub [] rfl ?_
      exact tb_X3_isNode_56 C hK h
    · replace h := h.2 z
      refine gx_aload_n C dX3_isNode_43 rfl 1 rfl ?_
      refine gx_iload_n C dX3_isNode_44 rfl 0 rfl ?_
      refine tm_calli (rest := []) C hK (fun sz => tk_X3_node h) (cwV 1 C.t (lw_V q2698 q2700 qs89 q130 q2701) rfl rfl rfl ⟨rfl, dmX3_node⟩ ⟨Nat.le_of_ble_eq_true rfl, Nat.le_of_ble_eq_true rfl⟩) rfl rfl (Nat.le_of_ble_eq_true rfl) dX3_isNode_45 (fun r45 M45 h => ?_)
      refine gx_iload_n C dX3_isNode_48 rfl 2 rfl ?_
      refine gx_icmp_ne (tgt := 56) C dX3_isNode_49 (by decide) (fun z => ?_) (fun z => ?_)
      · replace h := h.2 z
        refine gx_sub [] rfl ?_
        exact tb_X3_isNode_56 C hK h
      · replace h := h.1 z
        refine gx_iconst (v := 1) C dX3_isNode_52 (by decide) ?_
        refine gx_goto (tgt := 57) C dX3_isNode_53 (by decide) ?_
        refine gx_sub [] rfl ?_
        exact tb_X3_isNode_57 C hK h
  · replace h := h.2 z
    refine gx_iload_n C dX3_isNode_6 rfl 1 rfl ?_
    refine gx_aload_n C dX3_isNode_7 rfl 0 rfl ?_
    refine tm_get C hK 1 (by decide) q2301 rfl rfl dX3_isNode_8 ?_
    refine gx_iconst (v := 3) C dX3_isNode_11 (by decide) ?_
    obtain ⟨g12, h⟩ := h
    refine tm_ald0 C hK g12 dX3_isNode_12 ?_
    refine gx_phii (t := (if (ms_r M 0 3) ≤ a1 then 0 else 1)) (pc2 := 21) (lv2 := [(0, .ref (g 0)), (1, .int a1)]) (rest2 := []) (fun key => ?_) ?_
    · refine gx_icmp_ge (tgt := 20) C dX3_isNode_13 (by decide) (fun z1 => ?_) (fun z1 => ?_)
      · refine gx_iconst (v := 0) C dX3_isNode_20 (by decide) ?_
        exact gx_casti (if_pos z1) key
      · refine gx_iconst (v := 1) C dX3_isNode_16 (by decide) ?_
        refine gx_goto (tgt := 21) C dX3_isNode_17 (by decide) ?_
        exact gx_casti (if_neg z1) key
    exact tm_zret C hK (by repeat' (first | rfl | split)) h dX3_isNode_21
/-! children(I)I -/
abbrev rmX3_children : Room := { frames := 4, cells := 0, slots := 0, locals := 90 }
theorem dmX3_children : yX3_children.cls ≠ "java/lang/invoke/MethodHandle" ∧ yX3_children.cls ≠ "java/lang/invoke/VarHandle" ∧ (parseMethodDescriptor yX3_children.desc).map (fun d => d.parameters.length) = some 1 := by decide +kernel
def tj_X3_children_44 (M : MS) (a1 : Int32) (a3 : Int32) (s0 : Int32) (s1 : Int32) (k4 : MS → Int32 → Int32 → Int32 → Prop) (Q : Int32 → MS → Prop) : Prop :=
  k4 M a1 (s0 + s1) (a3 + 1)
theorem tb_X3_children_44 {l : Launch} {p : Program} {e : Env} {s : State} {m : MethodId} {args : Array Value} {below : List Frame} {meth : Method} {c : Code} {D : va_G} {g : Nat → Nat} {cI cJ : ClassId} (C : gx_C p s m args meth c cX3_children 4 (some .int) RX3) (hK : va_K D gcl [(cI, .int), (cJ, .long)] s) {M : MS} {a1 : Int32} {a3 : Int32} {s0 : Int32} {s1 : Int32} {k4 : MS → Int32 → Int32 → Int32 → Prop} {Q : Int32 → MS → Prop} (h : tj_X3_children_44 M a1 a3 s0 s1 k4 Q) (hk4 : ∀ (M : MS) (a1 : Int32) (a2 : Int32) (a3 : Int32), k4 M a1 a2 a3 → gx_W p l e (headSpec (ws_ yX3_children cX3_children 4 (some .int)) rmX3_children).room s m args below meth c 4 (tm_I D g cI cJ s M) 0 0 (MQ below (va_Qi Q (tm_B D g cI cJ s.heap.size) (tm_A g s.heap.size)) args s 0 0 (tm_A g s.heap.size)) 4 [(0, .ref (g 0)), (1, .int a1), (2, .int a2), (3, .int a3)] []) : gx_W p l e (headSpec (ws_ yX3_children cX3_children 4 (some .int)) rmX3_children).room s m args below meth c 4 (tm_I D g cI cJ s M) 0 0 (MQ below (va_Qi Q (tm_B D g cI cJ s.heap.size) (tm_A g s.heap.size)) args s 0 0 (tm_A g s.heap.size)) 44 [(0, .ref (g 0)), (1, .int a1), (3, .int a3)] [.int s1, .int s0] := by
  unfold tj_X3_children_44 at h
  refine gx_iadd C dX3_children_44 ?_
  refine gx_istore_n (lv' := [(2, .int (s0 + s1)), (0, .ref (g 0)), (1, .int a1), (3, .int a3)]) C dX3_children_45 rfl (by decide) rfl ?_
  refine gx_iinc (v := a3 + 1) (k := 3) (lv' := [(3, .int (a3 + 1)), (2, .int (s0 + s1)), (0, .ref (g 0)), (1, .int a1)]) C dX3_children_46 rfl rfl (by decide) rfl ?_
  refine gx_goto (tgt := 4) C dX3_children_49 (by decide) ?_
  refine gx_sub [2, 3, 1, 0] rfl ?_
  exact hk4 M a1 (s0 + s1) (a3 + 1) h
def tj_X3_children_43 (M : MS) (a1 : Int32) (a3 : Int32) (s0 : Int32) (k4 : MS → Int32 → Int32 → Int32 → Prop) (Q : Int32 → MS → Prop) : Prop :=
  tj_X3_children_44 M a1 a3 s0 0 k4 Q
theorem tb_X3_children_43 {l : Launch} {p : Program} {e : Env} {s : State} {m : MethodId} {args : Array Value} {below : List Frame} {meth : Method} {c : Code} {D : va_G} {g : Nat → Nat} {cI cJ : ClassId} (C : gx_C p s m args meth c cX3_children 4 (some .int) RX3) (hK : va_K D gcl [(cI, .int), (cJ, .long)] s) {M : MS} {a1 : Int32} {a3 : Int32} {s0 : Int32} {k4 : MS → Int32 → Int32 → Int32 → Prop} {Q : Int32 → MS → Prop} (h : tj_X3_children_43 M a1 a3 s0 k4 Q) (hk4 : ∀ (M : MS) (a1 : Int32) (a2 : Int32) (a3 : Int32), k4 M a1 a2 a3 → gx_W p l e (headSpec (ws_ yX3_children cX3_children 4 (some .int)) rmX3_children).room s m args below meth c 4 (tm_I D g cI cJ s M) 0 0 (MQ below (va_Qi Q (tm_B D g cI cJ s.heap.size) (tm_A g s.heap.size)) args s 0 0 (tm_A g s.heap.size)) 4 [(0, .ref (g 0)), (1, .int a1), (2, .int a2), (3, .int a3)] []) : gx_W p l e (headSpec (ws_ yX3_children cX3_children 4 (some .int)) rmX3_children).room s m args below meth c 4 (tm_I D g cI cJ s M) 0 0 (MQ below (va_Qi Q (tm_B D g cI cJ s.heap.size) (tm_A g s.heap.size)) args s 0 0 (tm_A g s.heap.size)) 43 [(0, .ref (g 0)), (1, .int a1), (3, .int a3)] [.int s0] := by
  unfold tj_X3_children_43 at h
  refine gx_iconst (v := 0) C dX3_children_43 (by decide) ?_
  exact tb_X3_children_44 C hK h hk4
def tj_X3_children_39 (M : MS) (a1 : Int32) (a3 : Int32) (s0 : Int32) (k4 : MS → Int32 → Int32 → Int32 → Prop) (Q : Int32 → MS → Prop) : Prop :=
  tj_X3_children_44 M a1 a3 s0 1 k4 Q
theorem tb_X3_children_39 {l : Launch} {p : Program} {e : Env} {s : State} {m : MethodId} {args : Array Value} {below : List Frame} {meth : Method} {c : Code} {D : va_G} {g : Nat → Nat} {cI cJ : ClassId} (C : gx_C p s m args meth c cX3_children 4 (some .int) RX3) (hK : va_K D gcl [(cI, .int), (cJ, .long)] s) {M : MS} {a1 : Int32} {a3 : Int32} {s0 : Int32} {k4 : MS → Int32 → Int32 → Int32 → Prop} {Q : Int32 → MS → Prop} (h : tj_X3_children_39 M a1 a3 s0 k4 Q) (hk4 : ∀ (M : MS) (a1 : Int32) (a2 : Int32) (a3 : Int32), k4 M a1 a2 a3 → gx_W p l e (headSpec (ws_ yX3_children cX3_children 4 (some .int)) rmX3_children).room s m args below meth c 4 (tm_I D g cI cJ s M) 0 0 (MQ below (va_Qi Q (tm_B D g cI cJ s.heap.size) (tm_A g s.heap.size)) args s 0 0 (tm_A g s.heap.size)) 4 [(0, .ref (g 0)), (1, .int a1), (2, .int a2), (3, .int a3)] []) : gx_W p l e (headSpec (ws_ yX3_children cX3_children 4 (some .int)) rmX3_children).room s m args below meth c 4 (tm_I D g cI cJ s M) 0 0 (MQ below (va_Qi Q (tm_B D g cI cJ s.heap.size) (tm_A g s.heap.size)) args s 0 0 (tm_A g s.heap.size)) 39 [(0, .ref (g 0)), (1, .int a1), (3, .int a3)] [.int s0] := by
  unfold tj_X3_children_39 at h
  refine gx_iconst (v := 1) C dX3_children_39 (by decide) ?_
  refine gx_goto (tgt := 44) C dX3_children_40 (by decide) ?_
  exact tb_X3_children_44 C hK h hk4
def tj_X3_children_4 (M : MS) (a1 : Int32) (a2 : Int32) (a3 : Int32) (k4 : MS → Int32 → Int32 → Int32 → Prop) (Q : Int32 → MS → Prop) : Prop :=
  ((100 ≤ a3 → Q a2 M) ∧ (¬ (100 ≤ a3) → tw_X3_isNode M a3 (fun r13 M13 => ((r13 = 0 → tj_X3_children_43 M13 a1 a3 a2 k4 Q) ∧ (¬ (r13 = 0) → tw_X3_parent M13 a3 3 (fun r22 M22 => ((r22 = a1 → tj_X3_children_39 M22 a1 a3 a2 k4 Q) ∧ (¬ (r22 = a1) → tw_X3_parent M22 a3 4 (fun r32 M32 => ((r32 = a1 → tj_X3_children_39 M32 a1 a3 a2 k4 Q) ∧ (¬ (r32 = a1) → tj_X3_children_43 M32 a1 a3 a2 k4 Q)))))))))))
theorem tb_X3_children_4 {l : Launch} {p : Program} {e : Env} {s : State} {m : MethodId} {args : Array Value} {below : List Frame} {meth : Method} {c : Code} {D : va_G} {g : Nat → Nat} {cI cJ : ClassId} (C : gx_C p s m args meth c cX3_children 4 (some .int) RX3) (hK : va_K D gcl [(cI, .int), (cJ, .long)] s) {M : MS} {a1 : Int32} {a2 : Int32} {a3 : Int32} {k4 : MS → Int32 → Int32 → Int32 → Prop} {Q : Int32 → MS → Prop} (h : tj_X3_children_4 M a1 a2 a3 k4 Q) (hk4 : ∀ (M : MS) (a1 : Int32) (a2 : Int32) (a3 : Int32), k4 M a1 a2 a3 → gx_W p l e (headSpec (ws_ yX3_children cX3_children 4 (some .int)) rmX3_children).room s m args below meth c 4 (tm_I D g cI cJ s M) 0 0 (MQ below (va_Qi Q (tm_B D g cI cJ s.heap.size) (tm_A g s.heap.size)) args s 0 0 (tm_A g s.heap.size)) 4 [(0, .ref (g 0)), (1, .int a1), (2, .int a2), (3, .int a3)] []) : gx_W p l e (headSpec (ws_ yX3_children cX3_children 4 (some .int)) rmX3_children).room s m args below meth c 4 (tm_I D g cI cJ s M) 0 0 (MQ below (va_Qi Q (tm_B D g cI cJ s.heap.size) (tm_A g s.heap.size)) args s 0 0 (tm_A g s.heap.size)) 4 [(0, .ref (g 0)), (1, .int a1), (2, .int a2), (3, .int a3)] [] := by
  unfold tj_X3_children_4 at h
  refine gx_iload_n C dX3_children_4 rfl 3 rfl ?_
  refine gx_bipush (v := 100) C dX3_children_5 (by decide) ?_
  refine gx_icmp_ge (tgt := 52) C dX3_children_7 (by decide) (fun z => ?_) (fun z => ?_)
  · replace h := h.1 z
    refine gx_iload_n C dX3_children_52 rfl 2 rfl ?_
    exact tm_iret C hK h dX3_children_53
  · replace h := h.2 z
    refine gx_iload_n C dX3_children_10 rfl 2 rfl ?_
    refine gx_aload_n C dX3_children_11 rfl 0 rfl ?_
    refine gx_iload_n C dX3_children_12 rfl 3 rfl ?_
    refine tm_calli (rest := [.int a2]) C hK (fun sz => tk_X3_isNode h) (cwV 1 C.t (lw_V q2754 q2756 qs96 q130 q2757) rfl rfl rfl ⟨rfl, dmX3_isNode⟩ ⟨Nat.le_of_ble_eq_true rfl, Nat.le_of_ble_eq_true rfl⟩) rfl rfl (Nat.le_of_ble_eq_true rfl) dX3_children_13 (fun r13 M13 h => ?_)
    refine gx_if_eq (tgt := 43) C dX3_children_16 (by decide) (fun z => ?_) (fun z => ?_)
    · replace h := h.1 z
      refine gx_sub [0, 1, 3] rfl ?_
      exact tb_X3_children_43 C hK h hk4
    · replace h := h.2 z
      refine gx_aload_n C dX3_children_19 rfl 0 rfl ?_
      refine gx_iload_n C dX3_children_20 rfl 3 rfl ?_
      refine gx_iconst (v := 3) C dX3_children_21 (by decide) ?_
      refine tm_calli (rest := [.int a2]) C hK (fun sz => tk_X3_parent h) (cwV 2 C.t (lw_V q2738 q2740 qs94 q130 q2741) rfl rfl rfl ⟨rfl, dmX3_parent⟩ ⟨Nat.le_of_ble_eq_true rfl, Nat.le_of_ble_eq_true rfl⟩) rfl rfl (Nat.le_of_ble_eq_true rfl) dX3_children_22 (fun r22 M22 h => ?_)
      refine gx_iload_n C dX3_children_25 rfl 1 rfl ?_
      refine gx_icmp_eq (tgt := 39) C dX3_children_26 (by decide) (fun z => ?_) (fun z => ?_)
      · replace h := h.1 z
        refine gx_sub [0, 1, 3] rfl ?_
        exact tb_X3_children_39 C hK h hk4
      · replace h := h.2 z
        refine gx_aload_n C dX3_children_29 rfl 0 rfl ?_
        refine gx_iload_n C dX3_children_30 rfl 3 rfl ?_
        refine gx_iconst (v := 4) C dX3_children_31 (by decide) ?_
        refine tm_calli (rest := [.int a2]) C hK (fun sz => tk_X3_parent h) (cwV 2 C.t (lw_V q2738 q2740 qs94 q130 q2741) rfl rfl rfl ⟨rfl, dmX3_parent⟩ ⟨Nat.le_of_ble_eq_true rfl, Nat.le_of_ble_eq_true rfl⟩) rfl rfl (Nat.le_of_ble_eq_true rfl) dX3_children_32 (fun r32 M32 h => ?_)
        refine gx_iload_n C dX3_children_35 rfl 1 rfl ?_
        refine gx_icmp_ne (tgt := 43) C dX3_children_36 (by decide) (fun z => ?_) (fun z => ?_)
        · replace h := h.2 z
          refine gx_sub [0, 1, 3] rfl ?_
          exact tb_X3_children_43 C hK h hk4
        · replace h := h.1 z
          refine gx_sub [0, 1, 3] rfl ?_
          exact tb_X3_children_39 C hK h hk4
def tl_X3_children_4 (Q : Int32 → MS → Prop) : Nat → MS → Int32 → Int32 → Int32 → Prop
  | 0, _, _, _, _ => False
  | n + 1, M, a1, a2, a3 => tj_X3_children_4 M a1 a2 a3 (fun M a1 a2 a3 => tl_X3_children_4 Q n M a1 a2 a3) Q
theorem te_X3_children_4 {l : Launch} {p : Program} {e : Env} {s : State} {m : MethodId} {args : Array Value} {below : List Frame} {meth : Method} {c : Code} {D : va_G} {g : Nat → Nat} {cI cJ : ClassId} (C : gx_C p s m args meth c cX3_children 4 (some .int) RX3) (hK : va_K D gcl [(cI, .int), (cJ, .long)] s) {Q : Int32 → MS → Prop}  (n : Nat) : ∀ (M : MS) (a1 : Int32) (a2 : Int32) (a3 : Int32), tl_X3_children_4 Q n M a1 a2 a3 → gx_W p l e (headSpec (ws_ yX3_children cX3_children 4 (some .int)) rmX3_children).room s m args below meth c 4 (tm_I D g cI cJ s M) 0 0 (MQ below (va_Qi Q (tm_B D g cI cJ s.heap.size) (tm_A g s.heap.size)) args s 0 0 (tm_A g s.heap.size)) 4 [(0, .ref (g 0)), (1, .int a1), (2, .int a2), (3, .int a3)] [] := by
  induction n with
  | zero => intro M a1 a2 a3 h; exact False.elim h
  | succ n ih => intro M a1 a2 a3 h; exact tb_X3_children_4 C hK (show tj_X3_children_4 M a1 a2 a3 (fun M a1 a2 a3 => tl_X3_children_4 Q n M a1 a2 a3) Q from h) (fun M a1 a2 a3 h => ih M a1 a2 a3 h)
def tw_X3_children (M : MS) (a1 : Int32) (Q : Int32 → MS → Prop) : Prop :=
  ∃ n : Nat, tl_X3_children_4 Q n M a1 0 0
theorem tk_X3_children {l : Launch} {D : va_G} {g : Nat → Nat} {cI cJ : ClassId} {sz : Nat} {M : MS} {a1 : Int32} {Q : Int32 → MS → Prop} (h : tw_X3_children M a1 Q) : tm_Met l yX3_children cX3_children 4 (some .int) rmX3_children [.int a1] D g cI cJ sz M (va_Qi Q (tm_B D g cI cJ sz) (tm_A g sz)) := by
  refine tm_entry (by decide) (Nat.le_of_ble_eq_true rfl) (fun p e s m args below meth c hsz C hK => ?_)
  subst hsz
  unfold tw_X3_children at h
  show gx_W p l e (headSpec (ws_ yX3_children cX3_children 4 (some .int)) rmX3_children).room s m args below meth c 4 (tm_I D g cI cJ s M) 0 0 (MQ below (va_Qi Q (tm_B D g cI cJ s.heap.size) (tm_A g s.heap.size)) args s 0 0 (tm_A g s.heap.size)) 0 [(0, .ref (g 0)), (1, .int a1)] []
  refine gx_iconst (v := 0) C dX3_children_0 (by decide) ?_
  refine gx_istore_n (lv' := [(2, .int 0), (0, .ref (g 0)), (1, .int a1)]) C dX3_children_1 rfl (by decide) rfl ?_
  refine gx_iconst (v := 0) C dX3_children_2 (by decide) ?_
  refine gx_istore_n (lv' := [(3, .int 0), (2, .int 0), (0, .ref (g 0)), (1, .int a1)]) C dX3_children_3 rfl (by decide) rfl ?_
  refine gx_sub [2, 3, 1, 0] rfl ?_
  obtain ⟨n, h⟩ := h
  exact te_X3_children_4 C hK n M a1 0 0 h
/-! childrenOf(I)I -/
abbrev rmX3_childrenOf : Room := { frames := 5, cells := 0, slots := 0, locals := 113 }
theorem dmX3_childrenOf : yX3_childrenOf.cls ≠ "java/lang/invoke/MethodHandle" ∧ yX3_childrenOf.cls ≠ "java/lang/invoke/VarHandle" ∧ (parseMethodDescriptor yX3_childrenOf.desc).map (fun d => d.parameters.length) = some 1 := by decide +kernel
def tj_X3_childrenOf_36 (M : MS) (s0 : Int32) (Q : Int32 → MS → Prop) : Prop :=
  Q s0 M
theorem tb_X3_childrenOf_36 {l : Launch} {p : Program} {e : Env} {s : State} {m : MethodId} {args : Array Value} {below : List Frame} {meth : Method} {c : Code} {D : va_G} {g : Nat → Nat} {cI cJ : ClassId} (C : gx_C p s m args meth c cX3_childrenOf 3 (some .int) RX3) (hK : va_K D gcl [(cI, .int), (cJ, .long)] s) {M : MS} {s0 : Int32} {Q : Int32 → MS → Prop} (h : tj_X3_childrenOf_36 M s0 Q)  : gx_W p l e (headSpec (ws_ yX3_childrenOf cX3_childrenOf 3 (some .int)) rmX3_childrenOf).room s m args below meth c 3 (tm_I D g cI cJ s M) 0 0 (MQ below (va_Qi Q (tm_B D g cI cJ s.heap.size) (tm_A g s.heap.size)) args s 0 0 (tm_A g s.heap.size)) 36 [] [.int s0] := by
  unfold tj_X3_childrenOf_36 at h
  exact tm_iret C hK h dX3_childrenOf_36
def tw_X3_childrenOf (M : MS) (a1 : Int32) (Q : Int32 → MS → Prop) : Prop :=
  tw_X3_node M a1 (fun r2 M2 => (∀ M17 : MS, M17 = ms_s M2 0 (if r2 = (-1) then 1 else 0) → (((M17.1 0) ≤ 0 → tw_X3_children M17 r2 (fun r33 M33 => tj_X3_childrenOf_36 M33 r33 Q)) ∧ (¬ (M17.1 0) ≤ 0 → tj_X3_childrenOf_36 M17 0 Q))))
theorem tk_X3_childrenOf {l : Launch} {D : va_G} {g : Nat → Nat} {cI cJ : ClassId} {sz : Nat} {M : MS} {a1 : Int32} {Q : Int32 → MS → Prop} (h : tw_X3_childrenOf M a1 Q) : tm_Met l yX3_childrenOf cX3_childrenOf 3 (some .int) rmX3_childrenOf [.int a1] D g cI cJ sz M (va_Qi Q (tm_B D g cI cJ sz) (tm_A g sz)) := by
  refine tm_entry (by decide) (Nat.le_of_ble_eq_true rfl) (fun p e s m args below meth c hsz C hK => ?_)
  subst hsz
  unfold tw_X3_childrenOf at h
  show gx_W p l e (headSpec (ws_ yX3_childrenOf cX3_childrenOf 3 (some .int)) rmX3_childrenOf).room s m args below meth c 3 (tm_I D g cI cJ s M) 0 0 (MQ below (va_Qi Q (tm_B D g cI cJ s.heap.size) (tm_A g s.heap.size)) args s 0 0 (tm_A g s.heap.size)) 0 [(0, .ref (g 0)), (1, .int a1)] []
  refine gx_aload_n C dX3_childrenOf_0 rfl 0 rfl ?_
  refine gx_iload_n C dX3_childrenOf_1 rfl 1 rfl ?_
  refine tm_calli (rest := []) C hK (fun sz => tk_X3_node h) (cwV 1 C.t (lw_V q2698 q2700 qs89 q130 q2701) rfl rfl rfl ⟨rfl, dmX3_node⟩ ⟨Nat.le_of_ble_eq_true rfl, Nat.le_of_ble_eq_true rfl⟩) rfl rfl (Nat.le_of_ble_eq_true rfl) dX3_childrenOf_2 (fun r2 M2 h => ?_)
  refine gx_istore_n (lv' := [(2, .int r2), (0, .ref (g 0)), (1, .int a1)]) C dX3_childrenOf_5 rfl (by decide) rfl ?_
  refine gx_aload_n C dX3_childrenOf_6 rfl 1 rfl ?_
  refine gx_iload_n C dX3_childrenOf_7 rfl 0 rfl ?_
  refine gx_iconst (v := (-1)) C dX3_childrenOf_8 (by decide) ?_
  refine gx_phii (t := (if r2 = (-1) then 1 else 0)) (pc2 := 17) (lv2 := [(2, .int r2), (0, .ref (g 0)), (1, .int a1)]) (rest2 := [.ref (g 0)]) (fun key => ?_) ?_
  · refine gx_icmp_ne (tgt := 16) C dX3_childrenOf_9 (by decide) (fun z1 => ?_) (fun z1 => ?_)
    · refine gx_iconst (v := 0) C dX3_childrenOf_16 (by decide) ?_
      exact gx_casti (if_neg z1) key
    · refine gx_iconst (v := 1) C dX3_childrenOf_12 (by decide) ?_
      refine gx_goto (tgt := 17) C dX3_childrenOf_13 (by decide) ?_
      exact gx_casti (if_pos z1) key
  refine tm_put0 C hK q2300 dX3_childrenOf_17 (fun M17 e_M17 => ?_)
  replace h := h M17 e_M17
  refine gx_aload_n C dX3_childrenOf_20 rfl 1 rfl ?_
  refine tm_get C hK 0 (by decide) q2300 rfl rfl dX3_childrenOf_21 ?_
  refine gx_if_le (tgt := 31) C dX3_childrenOf_24 (by decide) (fun z => ?_) (fun z => ?_)
  · replace h := h.1 z
    refine gx_aload_n C dX3_childrenOf_31 rfl 1 rfl ?_
    refine gx_iload_n C dX3_childrenOf_32 rfl 0 rfl ?_
    refine tm_calli (rest := []) C hK (fun sz => tk_X3_children h) (cwV 1 C.t (lw_V q2750 q2752 qs95 q130 q2753) rfl rfl rfl ⟨rfl, dmX3_children⟩ ⟨Nat.le_of_ble_eq_true rfl, Nat.le_of_ble_eq_true rfl⟩) rfl rfl (Nat.le_of_ble_eq_true rfl) dX3_childrenOf_33 (fun r33 M33 h => ?_)
    refine gx_sub [] rfl ?_
    exact tb_X3_childrenOf_36 C hK h
  · replace h := h.2 z
    refine gx_iconst (v := 0) C dX3_childrenOf_27 (by decide) ?_
    refine gx_goto (tgt := 36) C dX3_childrenOf_28 (by decide) ?_
    refine gx_sub [] rfl ?_
    exact tb_X3_childrenOf_36 C hK h
/-! isMarked(I)Z -/
abbrev rmX3_isMarked : Room := { frames := 0, cells := 0, slots := 0, locals := 0 }
theorem dmX3_isMarked : yX3_isMarked.cls ≠ "java/lang/invoke/MethodHandle" ∧ yX3_isMarked.cls ≠ "java/lang/invoke/VarHandle" ∧ (parseMethodDescriptor yX3_isMarked.desc).map (fun d => d.parameters.length) = some 1 := by decide +kernel
def tj_X3_isMarked_20 (M : MS) (s0 : Int32) (Q : Int32 → MS → Prop) : Prop :=
  (narrow .boolean (.int s0) = .int s0 ∧ Q s0 M)
theorem tb_X3_isMarked_20 {l : Launch} {p : Program} {e : Env} {s : State} {m : MethodId} {args : Array Value} {below : List Frame} {meth : Method} {c : Code} {D : va_G} {g : Nat → Nat} {cI cJ : ClassId} (C : gx_C p s m args meth c cX3_isMarked 2 (some .boolean) RX3) (hK : va_K D gcl [(cI, .int), (cJ, .long)] s) {M : MS} {s0 : Int32} {Q : Int32 → MS → Prop} (h : tj_X3_isMarked_20 M s0 Q)  : gx_W p l e (headSpec (ws_ yX3_isMarked cX3_isMarked 2 (some .boolean)) rmX3_isMarked).room s m args below meth c 2 (tm_I D g cI cJ s M) 0 0 (MQ below (va_Qi Q (tm_B D g cI cJ s.heap.size) (tm_A g s.heap.size)) args s 0 0 (tm_A g s.heap.size)) 20 [] [.int s0] := by
  unfold tj_X3_isMarked_20 at h
  obtain ⟨g20, h⟩ := h
  exact tm_zret C hK g20 h dX3_isMarked_20
def tj_X3_isMarked_19 (M : MS) (Q : Int32 → MS → Prop) : Prop :=
  tj_X3_isMarked_20 M 0 Q
theorem tb_X3_isMarked_19 {l : Launch} {p : Program} {e : Env} {s : State} {m : MethodId} {args : Array Value} {below : List Frame} {meth : Method} {c : Code} {D : va_G} {g : Nat → Nat} {cI cJ : ClassId} (C : gx_C p s m args meth c cX3_isMarked 2 (some .boolean) RX3) (hK : va_K D gcl [(cI, .int), (cJ, .long)] s) {M : MS} {Q : Int32 → MS → Prop} (h : tj_X3_isMarked_19 M Q)  : gx_W p l e (headSpec (ws_ yX3_isMarked cX3_isMarked 2 (some .boolean)) rmX3_isMarked).room s m args below meth c 2 (tm_I D g cI cJ s M) 0 0 (MQ below (va_Qi Q (tm_B D g cI cJ s.heap.size) (tm_A g s.heap.size)) args s 0 0 (tm_A g s.heap.size)) 19 [] [] := by
  unfold tj_X3_isMarked_19 at h
  refine gx_iconst (v := 0) C dX3_isMarked_19 (by decide) ?_
  exact tb_X3_isMarked_20 C hK h
def tw_X3_isMarked (M : MS) (a1 : Int32) (Q : Int32 → MS → Prop) : Prop :=
  ((a1 = (-1) → tj_X3_isMarked_19 M Q) ∧ (¬ (a1 = (-1)) → (vp_in a1 100 ∧ (((ms_r M 4 a1) = 1 → tj_X3_isMarked_20 M 1 Q) ∧ (¬ (ms_r M 4 a1) = 1 → tj_X3_isMarked_19 M Q)))))
theorem tk_X3_isMarked {l : Launch} {D : va_G} {g : Nat → Nat} {cI cJ : ClassId} {sz : Nat} {M : MS} {a1 : Int32} {Q : Int32 → MS → Prop} (h : tw_X3_isMarked M a1 Q) : tm_Met l yX3_isMarked cX3_isMarked 2 (some .boolean) rmX3_isMarked [.int a1] D g cI cJ sz M (va_Qi Q (tm_B D g cI cJ sz) (tm_A g sz)) := by
  refine tm_entry (by decide) (Nat.le_of_ble_eq_true rfl) (fun p e s m args below meth c hsz C hK => ?_)
  subst hsz
  unfold tw_X3_isMarked at h
  show gx_W p l e (headSpec (ws_ yX3_isMarked cX3_isMarked 2 (some .boolean)) rmX3_isMarked).room s m args below meth c 2 (tm_I D g cI cJ s M) 0 0 (MQ below (va_Qi Q (tm_B D g cI cJ s.heap.size) (tm_A g s.heap.size)) args s 0 0 (tm_A g s.heap.size)) 0 [(0, .ref (g 0)), (1, .int a1)] []
  refine gx_iload_n C dX3_isMarked_0 rfl 1 rfl ?_
  refine gx_iconst (v := (-1)) C dX3_isMarked_1 (by decide) ?_
  refine gx_icmp_eq (tgt := 19) C dX3_isMarked_2 (by decide) (fun z => ?_) (fun z => ?_)
  · replace h := h.1 z
    refine gx_sub [] rfl ?_
    exact tb_X3_isMarked_19 C hK h
  · replace h := h.2 z
    refine gx_aload_n C dX3_isMarked_5 rfl 0 rfl ?_
    refine tm_get C hK 8 (by decide) q2308 rfl rfl dX3_isMarked_6 ?_
    refine gx_iload_n C dX3_isMarked_9 rfl 1 rfl ?_
    obtain ⟨g10, h⟩ := h
    refine tm_ald4 C hK g10 dX3_isMarked_10 ?_
    refine gx_iconst (v := 1) C dX3_isMarked_11 (by decide) ?_
    refine gx_icmp_ne (tgt := 19) C dX3_isMarked_12 (by decide) (fun z => ?_) (fun z => ?_)
    · replace h := h.2 z
      refine gx_sub [] rfl ?_
      exact tb_X3_isMarked_19 C hK h
    · replace h := h.1 z
      refine gx_iconst (v := 1) C dX3_isMarked_15 (by decide) ?_
      refine gx_goto (tgt := 20) C dX3_isMarked_16 (by decide) ?_
      refine gx_sub [] rfl ?_
      exact tb_X3_isMarked_20 C hK h
/-! offspring(I)I -/
abbrev rmX3_offspring : Room := { frames := 4, cells := 0, slots := 0, locals := 90 }
theorem dmX3_offspring : yX3_offspring.cls ≠ "java/lang/invoke/MethodHandle" ∧ yX3_offspring.cls ≠ "java/lang/invoke/VarHandle" ∧ (parseMethodDescriptor yX3_offspring.desc).map (fun d => d.parameters.length) = some 1 := by decide +kernel
def tj_X3_offspring_110 (M : MS) (a2 : Int32) (a3 : Int32) (a4 : Int32) (k34 : MS → Int32 → Int32 → Prop) (k43 : MS → Int32 → Int32 → Int32 → Prop) (Q : Int32 → MS → Prop) : Prop :=
  k43 M a2 a3 (a4 + 1)
theorem tb_X3_offspring_110 {l : Launch} {p : Program} {e : Env} {s : State} {m : MethodId} {args : Array Value} {below : List Frame} {meth : Method} {c : Code} {D : va_G} {g : Nat → Nat} {cI cJ : ClassId} (C : gx_C p s m args meth c cX3_offspring 5 (some .int) RX3) (hK : va_K D gcl [(cI, .int), (cJ, .long)] s) {M : MS} {a2 : Int32} {a3 : Int32} {a4 : Int32} {k34 : MS → Int32 → Int32 → Prop} {k43 : MS → Int32 → Int32 → Int32 → Prop} {Q : Int32 → MS → Prop} (h : tj_X3_offspring_110 M a2 a3 a4 k34 k43 Q) (hk34 : ∀ (M : MS) (a2 : Int32) (a3 : Int32), k34 M a2 a3 → gx_W p l e (headSpec (ws_ yX3_offspring cX3_offspring 5 (some .int)) rmX3_offspring).room s m args below meth c 5 (tm_I D g cI cJ s M) 0 0 (MQ below (va_Qi Q (tm_B D g cI cJ s.heap.size) (tm_A g s.heap.size)) args s 0 0 (tm_A g s.heap.size)) 34 [(0, .ref (g 0)), (2, .int a2), (3, .int a3)] []) (hk43 : ∀ (M : MS) (a2 : Int32) (a3 : Int32) (a4 : Int32), k43 M a2 a3 a4 → gx_W p l e (headSpec (ws_ yX3_offspring cX3_offspring 5 (some .int)) rmX3_offspring).room s m args below meth c 5 (tm_I D g cI cJ s M) 0 0 (MQ below (va_Qi Q (tm_B D g cI cJ s.heap.size) (tm_A g s.heap.size)) args s 0 0 (tm_A g s.heap.size)) 43 [(0, .ref (g 0)), (2, .int a2), (3, .int a3), (4, .int a4)] []) : gx_W p l e (headSpec (ws_ yX3_offspring cX3_offspring 5 (some .int)) rmX3_offspring).room s m args below meth c 5 (tm_I D g cI cJ s M) 0 0 (MQ below (va_Qi Q (tm_B D g cI cJ s.heap.size) (tm_A g s.heap.size)) args s 0 0 (tm_A g s.heap.size)) 110 [(0, .ref (g 0)), (2, .int a2), (3, .int a3), (4, .int a4)] [] := by
  unfold tj_X3_offspring_110 at h
  refine gx_iinc (v := a4 + 1) (k := 3) (lv' := [(4, .int (a4 + 1)), (0, .ref (g 0)), (2, .int a2), (3, .int a3)]) C dX3_offspring_110 rfl rfl (by decide) rfl ?_
  refine gx_goto (tgt := 43) C dX3_offspring_113 (by decide) ?_
  refine gx_sub [1, 2, 3, 0] rfl ?_
  exact hk43 M a2 a3 (a4 + 1) h
def tj_X3_offspring_97 (M : MS) (a2 : Int32) (a4 : Int32) (k34 : MS → Int32 → Int32 → Prop) (k43 : MS → Int32 → Int32 → Int32 → Prop) (Q : Int32 → MS → Prop) : Prop :=
  (vp_in a4 100 ∧ ∀ M104 : MS, M104 = ms_a M 4 a4 1 → tj_X3_offspring_110 M104 (a2 + 1) 1 a4 k34 k43 Q)
theorem tb_X3_offspring_97 {l : Launch} {p : Program} {e : Env} {s : State} {m : MethodId} {args : Array Value} {below : List Frame} {meth : Method} {c : Code} {D : va_G} {g : Nat → Nat} {cI cJ : ClassId} (C : gx_C p s m args meth c cX3_offspring 5 (some .int) RX3) (hK : va_K D gcl [(cI, .int), (cJ, .long)] s) {M : MS} {a2 : Int32} {a4 : Int32} {k34 : MS → Int32 → Int32 → Prop} {k43 : MS → Int32 → Int32 → Int32 → Prop} {Q : Int32 → MS → Prop} (h : tj_X3_offspring_97 M a2 a4 k34 k43 Q) (hk34 : ∀ (M : MS) (a2 : Int32) (a3 : Int32), k34 M a2 a3 → gx_W p l e (headSpec (ws_ yX3_offspring cX3_offspring 5 (some .int)) rmX3_offspring).room s m args below meth c 5 (tm_I D g cI cJ s M) 0 0 (MQ below (va_Qi Q (tm_B D g cI cJ s.heap.size) (tm_A g s.heap.size)) args s 0 0 (tm_A g s.heap.size)) 34 [(0, .ref (g 0)), (2, .int a2), (3, .int a3)] []) (hk43 : ∀ (M : MS) (a2 : Int32) (a3 : Int32) (a4 : Int32), k43 M a2 a3 a4 → gx_W p l e (headSpec (ws_ yX3_offspring cX3_offspring 5 (some .int)) rmX3_offspring).room s m args below meth c 5 (tm_I D g cI cJ s M) 0 0 (MQ below (va_Qi Q (tm_B D g cI cJ s.heap.size) (tm_A g s.heap.size)) args s 0 0 (tm_A g s.heap.size)) 43 [(0, .ref (g 0)), (2, .int a2), (3, .int a3), (4, .int a4)] []) : gx_W p l e (headSpec (ws_ yX3_offspring cX3_offspring 5 (some .int)) rmX3_offspring).room s m args below meth c 5 (tm_I D g cI cJ s M) 0 0 (MQ below (va_Qi Q (tm_B D g cI cJ s.heap.size) (tm_A g s.heap.size)) args s 0 0 (tm_A g s.heap.size)) 97 [(0, .ref (g 0)), (2, .int a2), (4, .int a4)] [] := by
  unfold tj_X3_offspring_97 at h
  refine gx_aload_n C dX3_offspring_97 rfl 0 rfl ?_
  refine tm_get C hK 8 (by decide) q2308 rfl rfl dX3_offspring_98 ?_
  refine gx_iload C dX3_offspring_101 2 rfl ?_
  refine gx_iconst (v := 1) C dX3_offspring_103 (by decide) ?_
  obtain ⟨g104, h⟩ := h
  refine tm_ast4 C hK g104 dX3_offspring_104 (fun M104 e_M104 => ?_)
  replace h := h M104 e_M104
  refine gx_iinc (v := a2 + 1) (k := 1) (lv' := [(2, .int (a2 + 1)), (0, .ref (g 0)), (4, .int a4)]) C dX3_offspring_105 rfl rfl (by decide) rfl ?_
  refine gx_iconst (v := 1) C dX3_offspring_108 (by decide) ?_
  refine gx_istore_n (lv' := [(3, .int 1), (2, .int (a2 + 1)), (0, .ref (g 0)), (4, .int a4)]) C dX3_offspring_109 rfl (by decide) rfl ?_
  refine gx_sub [2, 1, 0, 3] rfl ?_
  exact tb_X3_offspring_110 C hK h hk34 hk43
def tj_X3_offspring_43 (M : MS) (a2 : Int32) (a3 : Int32) (a4 : Int32) (k43 : MS → Int32 → Int32 → Int32 → Prop) (k34 : MS → Int32 → Int32 → Prop) (Q : Int32 → MS → Prop) : Prop :=
  ((100 ≤ a4 → k34 M a2 a3) ∧ (¬ (100 ≤ a4) → (vp_in a4 100 ∧ (((ms_r M 4 a4) = 0 → tw_X3_isNode M a4 (fun r63 M63 => ((r63 = 0 → tj_X3_offspring_110 M63 a2 a3 a4 k34 k43 Q) ∧ (¬ (r63 = 0) → tw_X3_parent M63 a4 3 (fun r74 M74 => tw_X3_isMarked M74 r74 (fun r77 M77 => ((r77 = 0 → tw_X3_parent M77 a4 4 (fun r88 M88 => tw_X3_isMarked M88 r88 (fun r91 M91 => ((r91 = 0 → tj_X3_offspring_110 M91 a2 a3 a4 k34 k43 Q) ∧ (¬ (r91 = 0) → tj_X3_offspring_97 M91 a2 a4 k34 k43 Q))))) ∧ (¬ (r77 = 0) → tj_X3_offspring_97 M77 a2 a4 k34 k43 Q)))))))) ∧ (¬ (ms_r M 4 a4) = 0 → tj_X3_offspring_110 M a2 a3 a4 k34 k43 Q)))))
theorem tb_X3_offspring_43 {l : Launch} {p : Program} {e : Env} {s : State} {m : MethodId} {args : Array Value} {below : List Frame} {meth : Method} {c : Code} {D : va_G} {g : Nat → Nat} {cI cJ : ClassId} (C : gx_C p s m args meth c cX3_offspring 5 (some .int) RX3) (hK : va_K D gcl [(cI, .int), (cJ, .long)] s) {M : MS} {a2 : Int32} {a3 : Int32} {a4 : Int32} {k43 : MS → Int32 → Int32 → Int32 → Prop} {k34 : MS → Int32 → Int32 → Prop} {Q : Int32 → MS → Prop} (h : tj_X3_offspring_43 M a2 a3 a4 k43 k34 Q) (hk43 : ∀ (M : MS) (a2 : Int32) (a3 : Int32) (a4 : Int32), k43 M a2 a3 a4 → gx_W p l e (headSpec (ws_ yX3_offspring cX3_offspring 5 (some .int)) rmX3_offspring).room s m args below meth c 5 (tm_I D g cI cJ s M) 0 0 (MQ below (va_Qi Q (tm_B D g cI cJ s.heap.size) (tm_A g s.heap.size)) args s 0 0 (tm_A g s.heap.size)) 43 [(0, .ref (g 0)), (2, .int a2), (3, .int a3), (4, .int a4)] []) (hk34 : ∀ (M : MS) (a2 : Int32) (a3 : Int32), k34 M a2 a3 → gx_W p l e (headSpec (ws_ yX3_offspring cX3_offspring 5 (some .int)) rmX3_offspring).room s m args below meth c 5 (tm_I D g cI cJ s M) 0 0 (MQ below (va_Qi Q (tm_B D g cI cJ s.heap.size) (tm_A g s.heap.size)) args s 0 0 (tm_A g s.heap.size)) 34 [(0, .ref (g 0)), (2, .int a2), (3, .int a3)] []) : gx_W p l e (headSpec (ws_ yX3_offspring cX3_offspring 5 (some .int)) rmX3_offspring).room s m args below meth c 5 (tm_I D g cI cJ s M) 0 0 (MQ below (va_Qi Q (tm_B D g cI cJ s.heap.size) (tm_A g s.heap.size)) args s 0 0 (tm_A g s.heap.size)) 43 [(0, .ref (g 0)), (2, .int a2), (3, .int a3), (4, .int a4)] [] := by
  unfold tj_X3_offspring_43 at h
  refine gx_iload C dX3_offspring_43 3 rfl ?_
  refine gx_bipush (v := 100) C dX3_offspring_45 (by decide) ?_
  refine gx_icmp_ge (tgt := 116) C dX3_offspring_47 (by decide) (fun z => ?_) (fun z => ?_)
  · replace h := h.1 z
    refine gx_goto (tgt := 34) C dX3_offspring_116 (by decide) ?_
    refine gx_sub [0, 1, 2] rfl ?_
    exact hk34 M a2 a3 h
  · replace h := h.2 z
    refine gx_aload_n C dX3_offspring_50 rfl 0 rfl ?_
    refine tm_get C hK 8 (by decide) q2308 rfl rfl dX3_offspring_51 ?_
    refine gx_iload C dX3_offspring_54 3 rfl ?_
    obtain ⟨g56, h⟩ := h
    refine tm_ald4 C hK g56 dX3_offspring_56 ?_
    refine gx_if_ne (tgt := 110) C dX3_offspring_57 (by decide) (fun z => ?_) (fun z => ?_)
    · replace h := h.2 z
      exact tb_X3_offspring_110 C hK h hk34 hk43
    · replace h := h.1 z
      refine gx_aload_n C dX3_offspring_60 rfl 0 rfl ?_
      refine gx_iload C dX3_offspring_61 3 rfl ?_
      refine tm_calli (rest := []) C hK (fun sz => tk_X3_isNode h) (cwV 1 C.t (lw_V q2754 q2756 qs96 q130 q2757) rfl rfl rfl ⟨rfl, dmX3_isNode⟩ ⟨Nat.le_of_ble_eq_true rfl, Nat.le_of_ble_eq_true rfl⟩) rfl rfl (Nat.le_of_ble_eq_true rfl) dX3_offspring_63 (fun r63 M63 h => ?_)
      refine gx_if_eq (tgt := 110) C dX3_offspring_66 (by decide) (fun z => ?_) (fun z => ?_)
      · replace h := h.1 z
        exact tb_X3_offspring_110 C hK h hk34 hk43
      · replace h := h.2 z
        refine gx_aload_n C dX3_offspring_69 rfl 0 rfl ?_
        refine gx_aload_n C dX3_offspring_70 rfl 0 rfl ?_
        refine gx_iload C dX3_offspring_71 3 rfl ?_
        refine gx_iconst (v := 3) C dX3_offspring_73 (by decide) ?_
        refine tm_calli (rest := [.ref (g 0)]) C hK (fun sz => tk_X3_parent h) (cwV 2 C.t (lw_V q2738 q2740 qs94 q130 q2741) rfl rfl rfl ⟨rfl, dmX3_parent⟩ ⟨Nat.le_of_ble_eq_true rfl, Nat.le_of_ble_eq_true rfl⟩) rfl rfl (Nat.le_of_ble_eq_true rfl) dX3_offspring_74 (fun r74 M74 h => ?_)
        refine tm_calli (rest := []) C hK (fun sz => tk_X3_isMarked h) (cwV 1 C.t (lw_V q2770 q2772 qs99 q130 q2773) rfl rfl rfl ⟨rfl, dmX3_isMarked⟩ ⟨Nat.le_of_ble_eq_true rfl, Nat.le_of_ble_eq_true rfl⟩) rfl rfl (Nat.le_of_ble_eq_true rfl) dX3_offspring_77 (fun r77 M77 h => ?_)
        refine gx_if_ne (tgt := 97) C dX3_offspring_80 (by decide) (fun z => ?_) (fun z => ?_)
        · replace h := h.2 z
          refine gx_sub [0, 1, 3] rfl ?_
          exact tb_X3_offspring_97 C hK h hk34 hk43
        · replace h := h.1 z
          refine gx_aload_n C dX3_offspring_83 rfl 0 rfl ?_
          refine gx_aload_n C dX3_offspring_84 rfl 0 rfl ?_
          refine gx_iload C dX3_offspring_85 3 rfl ?_
          refine gx_iconst (v := 4) C dX3_offspring_87 (by decide) ?_
          refine tm_calli (rest := [.ref (g 0)]) C hK (fun sz => tk_X3_parent h) (cwV 2 C.t (lw_V q2738 q2740 qs94 q130 q2741) rfl rfl rfl ⟨rfl, dmX3_parent⟩ ⟨Nat.le_of_ble_eq_true rfl, Nat.le_of_ble_eq_true rfl⟩) rfl rfl (Nat.le_of_ble_eq_true rfl) dX3_offspring_88 (fun r88 M88 h => ?_)
          refine tm_calli (rest := []) C hK (fun sz => tk_X3_isMarked h) (cwV 1 C.t (lw_V q2770 q2772 qs99 q130 q2773) rfl rfl rfl ⟨rfl, dmX3_isMarked⟩ ⟨Nat.le_of_ble_eq_true rfl, Nat.le_of_ble_eq_true rfl⟩) rfl rfl (Nat.le_of_ble_eq_true rfl) dX3_offspring_91 (fun r91 M91 h => ?_)
          refine gx_if_eq (tgt := 110) C dX3_offspring_94 (by decide) (fun z => ?_) (fun z => ?_)
          · replace h := h.1 z
            exact tb_X3_offspring_110 C hK h hk34 hk43
          · replace h := h.2 z
            refine gx_sub [0, 1, 3] rfl ?_
            exact tb_X3_offspring_97 C hK h hk34 hk43
def tl_X3_offspring_43 (k34 : MS → Int32 → Int32 → Prop) (Q : Int32 → MS → Prop) : Nat → MS → Int32 → Int32 → Int32 → Prop
  | 0, _, _, _, _ => False
  | n + 1, M, a2, a3, a4 => tj_X3_offspring_43 M a2 a3 a4 (fun M a2 a3 a4 => tl_X3_offspring_43 k34 Q n M a2 a3 a4) k34 Q
theorem te_X3_offspring_43 {l : Launch} {p : Program} {e : Env} {s : State} {m : MethodId} {args : Array Value} {below : List Frame} {meth : Method} {c : Code} {D : va_G} {g : Nat → Nat} {cI cJ : ClassId} (C : gx_C p s m args meth c cX3_offspring 5 (some .int) RX3) (hK : va_K D gcl [(cI, .int), (cJ, .long)] s) {k34 : MS → Int32 → Int32 → Prop} {Q : Int32 → MS → Prop} (hk34 : ∀ (M : MS) (a2 : Int32) (a3 : Int32), k34 M a2 a3 → gx_W p l e (headSpec (ws_ yX3_offspring cX3_offspring 5 (some .int)) rmX3_offspring).room s m args below meth c 5 (tm_I D g cI cJ s M) 0 0 (MQ below (va_Qi Q (tm_B D g cI cJ s.heap.size) (tm_A g s.heap.size)) args s 0 0 (tm_A g s.heap.size)) 34 [(0, .ref (g 0)), (2, .int a2), (3, .int a3)] []) (n : Nat) : ∀ (M : MS) (a2 : Int32) (a3 : Int32) (a4 : Int32), tl_X3_offspring_43 k34 Q n M a2 a3 a4 → gx_W p l e (headSpec (ws_ yX3_offspring cX3_offspring 5 (some .int)) rmX3_offspring).room s m args below meth c 5 (tm_I D g cI cJ s M) 0 0 (MQ below (va_Qi Q (tm_B D g cI cJ s.heap.size) (tm_A g s.heap.size)) args s 0 0 (tm_A g s.heap.size)) 43 [(0, .ref (g 0)), (2, .int a2), (3, .int a3), (4, .int a4)] [] := by
  induction n with
  | zero => intro M a2 a3 a4 h; exact False.elim h
  | succ n ih => intro M a2 a3 a4 h; exact tb_X3_offspring_43 C hK (show tj_X3_offspring_43 M a2 a3 a4 (fun M a2 a3 a4 => tl_X3_offspring_43 k34 Q n M a2 a3 a4) k34 Q from h) (fun M a2 a3 a4 h => ih M a2 a3 a4 h) hk34
def tj_X3_offspring_34 (M : MS) (a2 : Int32) (a3 : Int32) (k34 : MS → Int32 → Int32 → Prop) (Q : Int32 → MS → Prop) : Prop :=
  ((a3 = 0 → Q a2 M) ∧ (¬ (a3 = 0) → ∃ n : Nat, tl_X3_offspring_43 k34 Q n M a2 0 0))
theorem tb_X3_offspring_34 {l : Launch} {p : Program} {e : Env} {s : State} {m : MethodId} {args : Array Value} {below : List Frame} {meth : Method} {c : Code} {D : va_G} {g : Nat → Nat} {cI cJ : ClassId} (C : gx_C p s m args meth c cX3_offspring 5 (some .int) RX3) (hK : va_K D gcl [(cI, .int), (cJ, .long)] s) {M : MS} {a2 : Int32} {a3 : Int32} {k34 : MS → Int32 → Int32 → Prop} {Q : Int32 → MS → Prop} (h : tj_X3_offspring_34 M a2 a3 k34 Q) (hk34 : ∀ (M : MS) (a2 : Int32) (a3 : Int32), k34 M a2 a3 → gx_W p l e (headSpec (ws_ yX3_offspring cX3_offspring 5 (some .int)) rmX3_offspring).room s m args below meth c 5 (tm_I D g cI cJ s M) 0 0 (MQ below (va_Qi Q (tm_B D g cI cJ s.heap.size) (tm_A g s.heap.size)) args s 0 0 (tm_A g s.heap.size)) 34 [(0, .ref (g 0)), (2, .int a2), (3, .int a3)] []) : gx_W p l e (headSpec (ws_ yX3_offspring cX3_offspring 5 (some .int)) rmX3_offspring).room s m args below meth c 5 (tm_I D g cI cJ s M) 0 0 (MQ below (va_Qi Q (tm_B D g cI cJ s.heap.size) (tm_A g s.heap.size)) args s 0 0 (tm_A g s.heap.size)) 34 [(0, .ref (g 0)), (2, .int a2), (3, .int a3)] [] := by
  unfold tj_X3_offspring_34 at h
  refine gx_iload_n C dX3_offspring_34 rfl 2 rfl ?_
  refine gx_if_eq (tgt := 119) C dX3_offspring_35 (by decide) (fun z => ?_) (fun z => ?_)
  · replace h := h.1 z
    refine gx_iload_n C dX3_offspring_119 rfl 1 rfl ?_
    exact tm_iret C hK h dX3_offspring_120
  · replace h := h.2 z
    refine gx_iconst (v := 0) C dX3_offspring_38 (by decide) ?_
    refine gx_istore_n (lv' := [(3, .int 0), (0, .ref (g 0)), (2, .int a2)]) C dX3_offspring_39 rfl (by decide) rfl ?_
    refine gx_iconst (v := 0) C dX3_offspring_40 (by decide) ?_
    refine gx_istore (lv' := [(4, .int 0), (3, .int 0), (0, .ref (g 0)), (2, .int a2)]) C dX3_offspring_41 (by decide) rfl ?_
    refine gx_sub [2, 3, 1, 0] rfl ?_
    obtain ⟨n, h⟩ := h
    exact te_X3_offspring_43 C hK hk34 n M a2 0 0 h
def tl_X3_offspring_34 (Q : Int32 → MS → Prop) : Nat → MS → Int32 → Int32 → Prop
  | 0, _, _, _ => False
  | n + 1, M, a2, a3 => tj_X3_offspring_34 M a2 a3 (fun M a2 a3 => tl_X3_offspring_34 Q n M a2 a3) Q
theorem te_X3_offspring_34 {l : Launch} {p : Program} {e : Env} {s : State} {m : MethodId} {args : Array Value} {below : List Frame} {meth : Method} {c : Code} {D : va_G} {g : Nat → Nat} {cI cJ : ClassId} (C : gx_C p s m args meth c cX3_offspring 5 (some .int) RX3) (hK : va_K D gcl [(cI, .int), (cJ, .long)] s) {Q : Int32 → MS → Prop}  (n : Nat) : ∀ (M : MS) (a2 : Int32) (a3 : Int32), tl_X3_offspring_34 Q n M a2 a3 → gx_W p l e (headSpec (ws_ yX3_offspring cX3_offspring 5 (some .int)) rmX3_offspring).room s m args below meth c 5 (tm_I D g cI cJ s M) 0 0 (MQ below (va_Qi Q (tm_B D g cI cJ s.heap.size) (tm_A g s.heap.size)) args s 0 0 (tm_A g s.heap.size)) 34 [(0, .ref (g 0)), (2, .int a2), (3, .int a3)] [] := by
  induction n with
  | zero => intro M a2 a3 h; exact False.elim h
  | succ n ih => intro M a2 a3 h; exact tb_X3_offspring_34 C hK (show tj_X3_offspring_34 M a2 a3 (fun M a2 a3 => tl_X3_offspring_34 Q n M a2 a3) Q from h) (fun M a2 a3 h => ih M a2 a3 h)
def tj_X3_offspring_2 (M : MS) (a1 : Int32) (a2 : Int32) (k2 : MS → Int32 → Int32 → Prop) (Q : Int32 → MS → Prop) : Prop :=
  ((100 ≤ a2 → ∃ n : Nat, tl_X3_offspring_34 Q n M 0 1) ∧ (¬ (100 ≤ a2) → (vp_in a2 100 ∧ ∀ M23 : MS, M23 = ms_a M 4 a2 (if a2 = a1 then 1 else 0) → k2 M23 a1 (a2 + 1))))
theorem tb_X3_offspring_2 {l : Launch} {p : Program} {e : Env} {s : State} {m : MethodId} {args : Array Value} {below : List Frame} {meth : Method} {c : Code} {D : va_G} {g : Nat → Nat} {cI cJ : ClassId} (C : gx_C p s m args meth c cX3_offspring 5 (some .int) RX3) (hK : va_K D gcl [(cI, .int), (cJ, .long)] s) {M : MS} {a1 : Int32} {a2 : Int32} {k2 : MS → Int32 → Int32 → Prop} {Q : Int32 → MS → Prop} (h : tj_X3_offspring_2 M a1 a2 k2 Q) (hk2 : ∀ (M : MS) (a1 : Int32) (a2 : Int32), k2 M a1 a2 → gx_W p l e (headSpec (ws_ yX3_offspring cX3_offspring 5 (some .int)) rmX3_offspring).room s m args below meth c 5 (tm_I D g cI cJ s M) 0 0 (MQ below (va_Qi Q (tm_B D g cI cJ s.heap.size) (tm_A g s.heap.size)) args s 0 0 (tm_A g s.heap.size)) 2 [(0, .ref (g 0)), (1, .int a1), (2, .int a2)] []) : gx_W p l e (headSpec (ws_ yX3_offspring cX3_offspring 5 (some .int)) rmX3_offspring).room s m args below meth c 5 (tm_I D g cI cJ s M) 0 0 (MQ below (va_Qi Q (tm_B D g cI cJ s.heap.size) (tm_A g s.heap.size)) args s 0 0 (tm_A g s.heap.size)) 2 [(0, .ref (g 0)), (1, .int a1), (2, .int a2)] [] := by
  unfold tj_X3_offspring_2 at h
  refine gx_iload_n C dX3_offspring_2 rfl 2 rfl ?_
  refine gx_bipush (v := 100) C dX3_offspring_3 (by decide) ?_
  refine gx_icmp_ge (tgt := 30) C dX3_offspring_5 (by decide) (fun z => ?_) (fun z => ?_)
  · replace h := h.1 z
    refine gx_iconst (v := 0) C dX3_offspring_30 (by decide) ?_
    refine gx_istore_n (lv' := [(2, .int 0), (0, .ref (g 0)), (1, .int a1)]) C dX3_offspring_31 rfl (by decide) rfl ?_
    refine gx_iconst (v := 1) C dX3_offspring_32 (by decide) ?_
    refine gx_istore_n (lv' := [(3, .int 1), (2, .int 0), (0, .ref (g 0)), (1, .int a1)]) C dX3_offspring_33 rfl (by decide) rfl ?_
    refine gx_sub [2, 1, 0] rfl ?_
    obtain ⟨n, h⟩ := h
    exact te_X3_offspring_34 C hK n M 0 1 h
  · replace h := h.2 z
    refine gx_aload_n C dX3_offspring_8 rfl 0 rfl ?_
    refine tm_get C hK 8 (by decide) q2308 rfl rfl dX3_offspring_9 ?_
    refine gx_iload_n C dX3_offspring_12 rfl 2 rfl ?_
    refine gx_iload_n C dX3_offspring_13 rfl 2 rfl ?_
    refine gx_iload_n C dX3_offspring_14 rfl 1 rfl ?_
    refine gx_phii (t := (if a2 = a1 then 1 else 0)) (pc2 := 23) (lv2 := [(0, .ref (g 0)), (1, .int a1), (2, .int a2)]) (rest2 := [.int a2, .ref (g 6)]) (fun key => ?_) ?_
    · refine gx_icmp_ne (tgt := 22) C dX3_offspring_15 (by decide) (fun z1 => ?_) (fun z1 => ?_)
      · refine gx_iconst (v := 0) C dX3_offspring_22 (by decide) ?_
        exact gx_casti (if_neg z1) key
      · refine gx_iconst (v := 1) C dX3_offspring_18 (by decide) ?_
        refine gx_goto (tgt := 23) C dX3_offspring_19 (by decide) ?_
        exact gx_casti (if_pos z1) key
    obtain ⟨g23, h⟩ := h
    refine tm_ast4 C hK g23 dX3_offspring_23 (fun M23 e_M23 => ?_)
    replace h := h M23 e_M23
    refine gx_iinc (v := a2 + 1) (k := 2) (lv' := [(2, .int (a2 + 1)), (0, .ref (g 0)), (1, .int a1)]) C dX3_offspring_24 rfl rfl (by decide) rfl ?_
    refine gx_goto (tgt := 2) C dX3_offspring_27 (by decide) ?_
    refine gx_sub [1, 2, 0] rfl ?_
    exact hk2 M23 a1 (a2 + 1) h
def tl_X3_offspring_2 (Q : Int32 → MS → Prop) : Nat → MS → Int32 → Int32 → Prop
  | 0, _, _, _ => False
  | n + 1, M, a1, a2 => tj_X3_offspring_2 M a1 a2 (fun M a1 a2 => tl_X3_offspring_2 Q n M a1 a2) Q
theorem te_X3_offspring_2 {l : Launch} {p : Program} {e : Env} {s : State} {m : MethodId} {args : Array Value} {below : List Frame} {meth : Method} {c : Code} {D : va_G} {g : Nat → Nat} {cI cJ : ClassId} (C : gx_C p s m args meth c cX3_offspring 5 (some .int) RX3) (hK : va_K D gcl [(cI, .int), (cJ, .long)] s) {Q : Int32 → MS → Prop}  (n : Nat) : ∀ (M : MS) (a1 : Int32) (a2 : Int32), tl_X3_offspring_2 Q n M a1 a2 → gx_W p l e (headSpec (ws_ yX3_offspring cX3_offspring 5 (some .int)) rmX3_offspring).room s m args below meth c 5 (tm_I D g cI cJ s M) 0 0 (MQ below (va_Qi Q (tm_B D g cI cJ s.heap.size) (tm_A g s.heap.size)) args s 0 0 (tm_A g s.heap.size)) 2 [(0, .ref (g 0)), (1, .int a1), (2, .int a2)] [] := by
  induction n with
  | zero => intro M a1 a2 h; exact False.elim h
  | succ n ih => intro M a1 a2 h; exact tb_X3_offspring_2 C hK (show tj_X3_offspring_2 M a1 a2 (fun M a1 a2 => tl_X3_offspring_2 Q n M a1 a2) Q from h) (fun M a1 a2 h => ih M a1 a2 h)
def tw_X3_offspring (M : MS) (a1 : Int32) (Q : Int32 → MS → Prop) : Prop :=
  ∃ n : Nat, tl_X3_offspring_2 Q n M a1 0
theorem tk_X3_offspring {l : Launch} {D : va_G} {g : Nat → Nat} {cI cJ : ClassId} {sz : Nat} {M : MS} {a1 : Int32} {Q : Int32 → MS → Prop} (h : tw_X3_offspring M a1 Q) : tm_Met l yX3_offspring cX3_offspring 5 (some .int) rmX3_offspring [.int a1] D g cI cJ sz M (va_Qi Q (tm_B D g cI cJ sz) (tm_A g sz)) := by
  refine tm_entry (by decide) (Nat.le_of_ble_eq_true rfl) (fun p e s m args below meth c hsz C hK => ?_)
  subst hsz
  unfold tw_X3_offspring at h
  show gx_W p l e (headSpec (ws_ yX3_offspring cX3_offspring 5 (some .int)) rmX3_offspring).room s m args below meth c 5 (tm_I D g cI cJ s M) 0 0 (MQ below (va_Qi Q (tm_B D g cI cJ s.heap.size) (tm_A g s.heap.size)) args s 0 0 (tm_A g s.heap.size)) 0 [(0, .ref (g 0)), (1, .int a1)] []
  refine gx_iconst (v := 0) C dX3_offspring_0 (by decide) ?_
  refine gx_istore_n (lv' := [(2, .int 0), (0, .ref (g 0)), (1, .int a1)]) C dX3_offspring_1 rfl (by decide) rfl ?_
  refine gx_sub [1, 2, 0] rfl ?_
  obtain ⟨n, h⟩ := h
  exact te_X3_offspring_2 C hK n M a1 0 h
/-! tellsOffspring(I)I -/
abbrev rmX3_tellsOffspring : Room := { frames := 5, cells := 0, slots := 0, locals := 114 }
theorem dmX3_tellsOffspring : yX3_tellsOffspring.cls ≠ "java/lang/invoke/MethodHandle" ∧ yX3_tellsOffspring.cls ≠ "java/lang/invoke/VarHandle" ∧ (parseMethodDescriptor yX3_tellsOffspring.desc).map (fun d => d.parameters.length) = some 1 := by decide +kernel
def tj_X3_tellsOffspring_36 (M : MS) (s0 : Int32) (Q : Int32 → MS → Prop) : Prop :=
  Q s0 M
theorem tb_X3_tellsOffspring_36 {l : Launch} {p : Program} {e : Env} {s : State} {m : MethodId} {args : Array Value} {below : List Frame} {meth : Method} {c : Code} {D : va_G} {g : Nat → Nat} {cI cJ : ClassId} (C : gx_C p s m args meth c cX3_tellsOffspring 3 (some .int) RX3) (hK : va_K D gcl [(cI, .int), (cJ, .long)] s) {M : MS} {s0 : Int32} {Q : Int32 → MS → Prop} (h : tj_X3_tellsOffspring_36 M s0 Q)  : gx_W p l e (headSpec (ws_ yX3_tellsOffspring cX3_tellsOffspring 3 (some .int)) rmX3_tellsOffspring).room s m args below meth c 3 (tm_I D g cI cJ s M) 0 0 (MQ below (va_Qi Q (tm_B D g cI cJ s.heap.size) (tm_A g s.heap.size)) args s 0 0 (tm_A g s.heap.size)) 36 [] [.int s0] := by
  unfold tj_X3_tellsOffspring_36 at h
  exact tm_iret C hK h dX3_tellsOffspring_36
def tw_X3_tellsOffspring (M : MS) (a1 : Int32) (Q : Int32 → MS → Prop) : Prop :=
  tw_X3_node M a1 (fun r2 M2 => (∀ M17 : MS, M17 = ms_s M2 0 (if r2 = (-1) then 1 else 0) → (((M17.1 0) ≤ 0 → tw_X3_offspring M17 r2 (fun r33 M33 => tj_X3_tellsOffspring_36 M33 r33 Q)) ∧ (¬ (M17.1 0) ≤ 0 → tj_X3_tellsOffspring_36 M17 0 Q))))
theorem tk_X3_tellsOffspring {l : Launch} {D : va_G} {g : Nat → Nat} {cI cJ : ClassId} {sz : Nat} {M : MS} {a1 : Int32} {Q : Int32 → MS → Prop} (h : tw_X3_tellsOffspring M a1 Q) : tm_Met l yX3_tellsOffspring cX3_tellsOffspring 3 (some .int) rmX3_tellsOffspring [.int a1] D g cI cJ sz M (va_Qi Q (tm_B D g cI cJ sz) (tm_A g sz)) := by
  refine tm_entry (by decide) (Nat.le_of_ble_eq_true rfl) (fun p e s m args below meth c hsz C hK => ?_)
  subst hsz
  unfold tw_X3_tellsOffspring at h
  show gx_W p l e (headSpec (ws_ yX3_tellsOffspring cX3_tellsOffspring 3 (some .int)) rmX3_tellsOffspring).room s m args below meth c 3 (tm_I D g cI cJ s M) 0 0 (MQ below (va_Qi Q (tm_B D g cI cJ s.heap.size) (tm_A g s.heap.size)) args s 0 0 (tm_A g s.heap.size)) 0 [(0, .ref (g 0)), (1, .int a1)] []
  refine gx_aload_n C dX3_tellsOffspring_0 rfl 0 rfl ?_
  refine gx_iload_n C dX3_tellsOffspring_1 rfl 1 rfl ?_
  refine tm_calli (rest := []) C hK (fun sz => tk_X3_node h) (cwV 1 C.t (lw_V q2698 q2700 qs89 q130 q2701) rfl rfl rfl ⟨rfl, dmX3_node⟩ ⟨Nat.le_of_ble_eq_true rfl, Nat.le_of_ble_eq_true rfl⟩) rfl rfl (Nat.le_of_ble_eq_true rfl) dX3_tellsOffspring_2 (fun r2 M2 h => ?_)
  refine gx_istore_n (lv' := [(2, .int r2), (0, .ref (g 0)), (1, .int a1)]) C dX3_tellsOffspring_5 rfl (by decide) rfl ?_
  refine gx_aload_n C dX3_tellsOffspring_6 rfl 1 rfl ?_
  refine gx_iload_n C dX3_tellsOffspring_7 rfl 0 rfl ?_
  refine gx_iconst (v := (-1)) C dX3_tellsOffspring_8 (by decide) ?_
  refine gx_phii (t := (if r2 = (-1) then 1 else 0)) (pc2 := 17) (lv2 := [(2, .int r2), (0, .ref (g 0)), (1, .int a1)]) (rest2 := [.ref (g 0)]) (fun key => ?_) ?_
  · refine gx_icmp_ne (tgt := 16) C dX3_tellsOffspring_9 (by decide) (fun z1 => ?_) (fun z1 => ?_)
    · refine gx_iconst (v := 0) C dX3_tellsOffspring_16 (by decide) ?_
      exact gx_casti (if_neg z1) key
    · refine gx_iconst (v := 1) C dX3_tellsOffspring_12 (by decide) ?_
      refine gx_goto (tgt := 17) C dX3_tellsOffspring_13 (by decide) ?_
      exact gx_casti (if_pos z1) key
  refine tm_put0 C hK q2300 dX3_tellsOffspring_17 (fun M17 e_M17 => ?_)
  replace h := h M17 e_M17
  refine gx_aload_n C dX3_tellsOffspring_20 rfl 1 rfl ?_
  refine tm_get C hK 0 (by decide) q2300 rfl rfl dX3_tellsOffspring_21 ?_
  refine gx_if_le (tgt := 31) C dX3_tellsOffspring_24 (by decide) (fun z => ?_) (fun z => ?_)
  · replace h := h.1 z
    refine gx_aload_n C dX3_tellsOffspring_31 rfl 1 rfl ?_
    refine gx_iload_n C dX3_tellsOffspring_32 rfl 0 rfl ?_
    refine tm_calli (rest := []) C hK (fun sz => tk_X3_offspring h) (cwV 1 C.t (lw_V q2766 q2768 qs98 q130 q2769) rfl rfl rfl ⟨rfl, dmX3_offspring⟩ ⟨Nat.le_of_ble_eq_true rfl, Nat.le_of_ble_eq_true rfl⟩) rfl rfl (Nat.le_of_ble_eq_true rfl) dX3_tellsOffspring_33 (fun r33 M33 h => ?_)
    refine gx_sub [] rfl ?_
    exact tb_X3_tellsOffspring_36 C hK h
  · replace h := h.2 z
    refine gx_iconst (v := 0) C dX3_tellsOffspring_27 (by decide) ?_
    refine gx_goto (tgt := 36) C dX3_tellsOffspring_28 (by decide) ?_
    refine gx_sub [] rfl ?_
    exact tb_X3_tellsOffspring_36 C hK h
/-! offspringOf(I)I -/
abbrev rmX3_offspringOf : Room := { frames := 6, cells := 0, slots := 0, locals := 136 }
theorem dmX3_offspringOf : yX3_offspringOf.cls ≠ "java/lang/invoke/MethodHandle" ∧ yX3_offspringOf.cls ≠ "java/lang/invoke/VarHandle" ∧ (parseMethodDescriptor yX3_offspringOf.desc).map (fun d => d.parameters.length) = some 1 := by decide +kernel
def tw_X3_offspringOf (M : MS) (a1 : Int32) (Q : Int32 → MS → Prop) : Prop :=
  tw_X3_tellsOffspring M a1 (fun r2 M2 => Q r2 M2)
theorem tk_X3_offspringOf {l : Launch} {D : va_G} {g : Nat → Nat} {cI cJ : ClassId} {sz : Nat} {M : MS} {a1 : Int32} {Q : Int32 → MS → Prop} (h : tw_X3_offspringOf M a1 Q) : tm_Met l yX3_offspringOf cX3_offspringOf 2 (some .int) rmX3_offspringOf [.int a1] D g cI cJ sz M (va_Qi Q (tm_B D g cI cJ sz) (tm_A g sz)) := by
  refine tm_entry (by decide) (Nat.le_of_ble_eq_true rfl) (fun p e s m args below meth c hsz C hK => ?_)
  subst hsz
  unfold tw_X3_offspringOf at h
  show gx_W p l e (headSpec (ws_ yX3_offspringOf cX3_offspringOf 2 (some .int)) rmX3_offspringOf).room s m args below meth c 2 (tm_I D g cI cJ s M) 0 0 (MQ below (va_Qi Q (tm_B D g cI cJ s.heap.size) (tm_A g s.heap.size)) args s 0 0 (tm_A g s.heap.size)) 0 [(0, .ref (g 0)), (1, .int a1)] []
  refine gx_aload_n C dX3_offspringOf_0 rfl 0 rfl ?_
  refine gx_iload_n C dX3_offspringOf_1 rfl 1 rfl ?_
  refine tm_calli (rest := []) C hK (fun sz => tk_X3_tellsOffspring h) (cwV 1 C.t (lw_V q2762 q2764 qs97 q130 q2765) rfl rfl rfl ⟨rfl, dmX3_tellsOffspring⟩ ⟨Nat.le_of_ble_eq_true rfl, Nat.le_of_ble_eq_true rfl⟩) rfl rfl (Nat.le_of_ble_eq_true rfl) dX3_offspringOf_2 (fun r2 M2 h => ?_)
  exact tm_iret C hK h dX3_offspringOf_5
/-! offspringByParents(I)I -/
abbrev rmX3_offspringByParents : Room := { frames := 6, cells := 0, slots := 0, locals := 136 }
theorem dmX3_offspringByParents : yX3_offspringByParents.cls ≠ "java/lang/invoke/MethodHandle" ∧ yX3_offspringByParents.cls ≠ "java/lang/invoke/VarHandle" ∧ (parseMethodDescriptor yX3_offspringByParents.desc).map (fun d => d.parameters.length) = some 1 := by decide +kernel
def tw_X3_offspringByParents (M : MS) (a1 : Int32) (Q : Int32 → MS → Prop) : Prop :=
  tw_X3_tellsOffspring M a1 (fun r2 M2 => Q r2 M2)
theorem tk_X3_offspringByParents {l : Launch} {D : va_G} {g : Nat → Nat} {cI cJ : ClassId} {sz : Nat} {M : MS} {a1 : Int32} {Q : Int32 → MS → Prop} (h : tw_X3_offspringByParents M a1 Q) : tm_Met l yX3_offspringByParents cX3_offspringByParents 2 (some .int) rmX3_offspringByParents [.int a1] D g cI cJ sz M (va_Qi Q (tm_B D g cI cJ sz) (tm_A g sz)) := by
  refine tm_entry (by decide) (Nat.le_of_ble_eq_true rfl) (fun p e s m args below meth c hsz C hK => ?_)
  subst hsz
  unfold tw_X3_offspringByParents at h
  show gx_W p l e (headSpec (ws_ yX3_offspringByParents cX3_offspringByParents 2 (some .int)) rmX3_offspringByParents).room s m args below meth c 2 (tm_I D g cI cJ s M) 0 0 (MQ below (va_Qi Q (tm_B D g cI cJ s.heap.size) (tm_A g s.heap.size)) args s 0 0 (tm_A g s.heap.size)) 0 [(0, .ref (g 0)), (1, .int a1)] []
  refine gx_aload_n C dX3_offspringByParents_0 rfl 0 rfl ?_
  refine gx_iload_n C dX3_offspringByParents_1 rfl 1 rfl ?_
  refine tm_calli (rest := []) C hK (fun sz => tk_X3_tellsOffspring h) (cwV 1 C.t (lw_V q2762 q2764 qs97 q130 q2765) rfl rfl rfl ⟨rfl, dmX3_tellsOffspring⟩ ⟨Nat.le_of_ble_eq_true rfl, Nat.le_of_ble_eq_true rfl⟩) rfl rfl (Nat.le_of_ble_eq_true rfl) dX3_offspringByParents_2 (fun r2 M2 h => ?_)
  exact tm_iret C hK h dX3_offspringByParents_5
/-! marksUp(I)V -/
abbrev rmX3_marksUp : Room := { frames := 4, cells := 0, slots := 0, locals := 90 }
theorem dmX3_marksUp : yX3_marksUp.cls ≠ "java/lang/invoke/MethodHandle" ∧ yX3_marksUp.cls ≠ "java/lang/invoke/VarHandle" ∧ (parseMethodDescriptor yX3_marksUp.desc).map (fun d => d.parameters.length) = some 1 := by decide +kernel
def tj_X3_marksUp_106 (M : MS) (a2 : Int32) (a3 : Int32) (k32 : MS → Int32 → Prop) (k40 : MS → Int32 → Int32 → Prop) (Q : MS → Prop) : Prop :=
  k40 M a2 (a3 + 1)
theorem tb_X3_marksUp_106 {l : Launch} {p : Program} {e : Env} {s : State} {m : MethodId} {args : Array Value} {below : List Frame} {meth : Method} {c : Code} {D : va_G} {g : Nat → Nat} {cI cJ : ClassId} (C : gx_C p s m args meth c cX3_marksUp 6 none RX3) (hK : va_K D gcl [(cI, .int), (cJ, .long)] s) {M : MS} {a2 : Int32} {a3 : Int32} {k32 : MS → Int32 → Prop} {k40 : MS → Int32 → Int32 → Prop} {Q : MS → Prop} (h : tj_X3_marksUp_106 M a2 a3 k32 k40 Q) (hk32 : ∀ (M : MS) (a2 : Int32), k32 M a2 → gx_W p l e (headSpec (ws_ yX3_marksUp cX3_marksUp 6 none) rmX3_marksUp).room s m args below meth c 6 (tm_I D g cI cJ s M) 0 0 (MQ below (va_Qv Q (tm_B D g cI cJ s.heap.size) (tm_A g s.heap.size)) args s 0 0 (tm_A g s.heap.size)) 32 [(0, .ref (g 0)), (2, .int a2)] []) (hk40 : ∀ (M : MS) (a2 : Int32) (a3 : Int32), k40 M a2 a3 → gx_W p l e (headSpec (ws_ yX3_marksUp cX3_marksUp 6 none) rmX3_marksUp).room s m args below meth c 6 (tm_I D g cI cJ s M) 0 0 (MQ below (va_Qv Q (tm_B D g cI cJ s.heap.size) (tm_A g s.heap.size)) args s 0 0 (tm_A g s.heap.size)) 40 [(0, .ref (g 0)), (2, .int a2), (3, .int a3)] []) : gx_W p l e (headSpec (ws_ yX3_marksUp cX3_marksUp 6 none) rmX3_marksUp).room s m args below meth c 6 (tm_I D g cI cJ s M) 0 0 (MQ below (va_Qv Q (tm_B D g cI cJ s.heap.size) (tm_A g s.heap.size)) args s 0 0 (tm_A g s.heap.size)) 106 [(0, .ref (g 0)), (2, .int a2), (3, .int a3)] [] := by
  unfold tj_X3_marksUp_106 at h
  refine gx_iinc (v := a3 + 1) (k := 2) (lv' := [(3, .int (a3 + 1)), (0, .ref (g 0)), (2, .int a2)]) C dX3_marksUp_106 rfl rfl (by decide) rfl ?_
  refine gx_goto (tgt := 40) C dX3_marksUp_109 (by decide) ?_
  refine gx_sub [1, 2, 0] rfl ?_
  exact hk40 M a2 (a3 + 1) h
def tj_X3_marksUp_100 (M : MS) (a2 : Int32) (a3 : Int32) (a4 : Int32) (k32 : MS → Int32 → Prop) (k40 : MS → Int32 → Int32 → Prop) (k49 : MS → Int32 → Int32 → Int32 → Prop) (Q : MS → Prop) : Prop :=
  k49 M a2 a3 (a4 + 1)
theorem tb_X3_marksUp_100 {l : Launch} {p : Program} {e : Env} {s : State} {m : MethodId} {args : Array Value} {below : List Frame} {meth : Method} {c : Code} {D : va_G} {g : Nat → Nat} {cI cJ : ClassId} (C : gx_C p s m args meth c cX3_marksUp 6 none RX3) (hK : va_K D gcl [(cI, .int), (cJ, .long)] s) {M : MS} {a2 : Int32} {a3 : Int32} {a4 : Int32} {k32 : MS → Int32 → Prop} {k40 : MS → Int32 → Int32 → Prop} {k49 : MS → Int32 → Int32 → Int32 → Prop} {Q : MS → Prop} (h : tj_X3_marksUp_100 M a2 a3 a4 k32 k40 k49 Q) (hk32 : ∀ (M : MS) (a2 : Int32), k32 M a2 → gx_W p l e (headSpec (ws_ yX3_marksUp cX3_marksUp 6 none) rmX3_marksUp).room s m args below meth c 6 (tm_I D g cI cJ s M) 0 0 (MQ below (va_Qv Q (tm_B D g cI cJ s.heap.size) (tm_A g s.heap.size)) args s 0 0 (tm_A g s.heap.size)) 32 [(0, .ref (g 0)), (2, .int a2)] []) (hk40 : ∀ (M : MS) (a2 : Int32) (a3 : Int32), k40 M a2 a3 → gx_W p l e (headSpec (ws_ yX3_marksUp cX3_marksUp 6 none) rmX3_marksUp).room s m args below meth c 6 (tm_I D g cI cJ s M) 0 0 (MQ below (va_Qv Q (tm_B D g cI cJ s.heap.size) (tm_A g s.heap.size)) args s 0 0 (tm_A g s.heap.size)) 40 [(0, .ref (g 0)), (2, .int a2), (3, .int a3)] []) (hk49 : ∀ (M : MS) (a2 : Int32) (a3 : Int32) (a4 : Int32), k49 M a2 a3 a4 → gx_W p l e (headSpec (ws_ yX3_marksUp cX3_marksUp 6 none) rmX3_marksUp).room s m args below meth c 6 (tm_I D g cI cJ s M) 0 0 (MQ below (va_Qv Q (tm_B D g cI cJ s.heap.size) (tm_A g s.heap.size)) args s 0 0 (tm_A g s.heap.size)) 49 [(0, .ref (g 0)), (2, .int a2), (3, .int a3), (4, .int a4)] []) : gx_W p l e (headSpec (ws_ yX3_marksUp cX3_marksUp 6 none) rmX3_marksUp).room s m args below meth c 6 (tm_I D g cI cJ s M) 0 0 (MQ below (va_Qv Q (tm_B D g cI cJ s.heap.size) (tm_A g s.heap.size)) args s 0 0 (tm_A g s.heap.size)) 100 [(0, .ref (g 0)), (2, .int a2), (3, .int a3), (4, .int a4)] [] := by
  unfold tj_X3_marksUp_100 at h
  refine gx_iinc (v := a4 + 1) (k := 3) (lv' := [(4, .int (a4 + 1)), (0, .ref (g 0)), (2, .int a2), (3, .int a3)]) C dX3_marksUp_100 rfl rfl (by decide) rfl ?_
  refine gx_goto (tgt := 49) C dX3_marksUp_103 (by decide) ?_
  refine gx_sub [1, 2, 3, 0] rfl ?_
  exact hk49 M a2 a3 (a4 + 1) h
def tj_X3_marksUp_49 (M : MS) (a2 : Int32) (a3 : Int32) (a4 : Int32) (k49 : MS → Int32 → Int32 → Int32 → Prop) (k32 : MS → Int32 → Prop) (k40 : MS → Int32 → Int32 → Prop) (Q : MS → Prop) : Prop :=
  ((4 < a4 → tj_X3_marksUp_106 M a2 a3 k32 k40 Q) ∧ (¬ (4 < a4) → (vp_in a3 100 ∧ (((ms_r M 4 a3) = 1 → tw_X3_parent M a3 a4 (fun r69 M69 => ((r69 = (-1) → tj_X3_marksUp_100 M69 a2 a3 a4 k32 k40 k49 Q) ∧ (¬ (r69 = (-1)) → (vp_in r69 100 ∧ (((ms_r M69 4 r69) = 0 → (vp_in r69 100 ∧ ∀ M97 : MS, M97 = ms_a M69 4 r69 1 → tj_X3_marksUp_100 M97 1 a3 a4 k32 k40 k49 Q)) ∧ (¬ (ms_r M69 4 r69) = 0 → tj_X3_marksUp_100 M69 a2 a3 a4 k32 k40 k49 Q))))))) ∧ (¬ (ms_r M 4 a3) = 1 → tj_X3_marksUp_106 M a2 a3 k32 k40 Q)))))
theorem tb_X3_marksUp_49 {l : Launch} {p : Program} {e : Env} {s : State} {m : MethodId} {args : Array Value} {below : List Frame} {meth : Method} {c : Code} {D : va_G} {g : Nat → Nat} {cI cJ : ClassId} (C : gx_C p s m args meth c cX3_marksUp 6 none RX3) (hK : va_K D gcl [(cI, .int), (cJ, .long)] s) {M : MS} {a2 : Int32} {a3 : Int32} {a4 : Int32} {k49 : MS → Int32 → Int32 → Int32 → Prop} {k32 : MS → Int32 → Prop} {k40 : MS → Int32 → Int32 → Prop} {Q : MS → Prop} (h : tj_X3_marksUp_49 M a2 a3 a4 k49 k32 k40 Q) (hk49 : ∀ (M : MS) (a2 : Int32) (a3 : Int32) (a4 : Int32), k49 M a2 a3 a4 → gx_W p l e (headSpec (ws_ yX3_marksUp cX3_marksUp 6 none) rmX3_marksUp).room s m args below meth c 6 (tm_I D g cI cJ s M) 0 0 (MQ below (va_Qv Q (tm_B D g cI cJ s.heap.size) (tm_A g s.heap.size)) args s 0 0 (tm_A g s.heap.size)) 49 [(0, .ref (g 0)), (2, .int a2), (3, .int a3), (4, .int a4)] []) (hk32 : ∀ (M : MS) (a2 : Int32), k32 M a2 → gx_W p l e (headSpec (ws_ yX3_marksUp cX3_marksUp 6 none) rmX3_marksUp).room s m args below meth c 6 (tm_I D g cI cJ s M) 0 0 (MQ below (va_Qv Q (tm_B D g cI cJ s.heap.size) (tm_A g s.heap.size)) args s 0 0 (tm_A g s.heap.size)) 32 [(0, .ref (g 0)), (2, .int a2)] []) (hk40 : ∀ (M : MS) (a2 : Int32) (a3 : Int32), k40 M a2 a3 → gx_W p l e (headSpec (ws_ yX3_marksUp cX3_marksUp 6 none) rmX3_marksUp).room s m args below meth c 6 (tm_I D g cI cJ s M) 0 0 (MQ below (va_Qv Q (tm_B D g cI cJ s.heap.size) (tm_A g s.heap.size)) args s 0 0 (tm_A g s.heap.size)) 40 [(0, .ref (g 0)), (2, .int a2), (3, .int a3)] []) : gx_W p l e (headSpec (ws_ yX3_marksUp cX3_marksUp 6 none) rmX3_marksUp).room s m args below meth c 6 (tm_I D g cI cJ s M) 0 0 (MQ below (va_Qv Q (tm_B D g cI cJ s.heap.size) (tm_A g s.heap.size)) args s 0 0 (tm_A g s.heap.size)) 49 [(0, .ref (g 0)), (2, .int a2), (3, .int a3), (4, .int a4)] [] := by
  unfold tj_X3_marksUp_49 at h
  refine gx_iload C dX3_marksUp_49 3 rfl ?_
  refine gx_iconst (v := 4) C dX3_marksUp_51 (by decide) ?_
  refine gx_icmp_gt (tgt := 106) C dX3_marksUp_52 (by decide) (fun z => ?_) (fun z => ?_)
  · replace h := h.1 z
    refine gx_sub [0, 1, 2] rfl ?_
    exact tb_X3_marksUp_106 C hK h hk32 hk40
  · replace h := h.2 z
    refine gx_aload_n C dX3_marksUp_55 rfl 0 rfl ?_
    refine tm_get C hK 8 (by decide) q2308 rfl rfl dX3_marksUp_56 ?_
    refine gx_iload_n C dX3_marksUp_59 rfl 2 rfl ?_
    obtain ⟨g60, h⟩ := h
    refine tm_ald4 C hK g60 dX3_marksUp_60 ?_
    refine gx_iconst (v := 1) C dX3_marksUp_61 (by decide) ?_
    refine gx_icmp_ne (tgt := 106) C dX3_marksUp_62 (by decide) (fun z => ?_) (fun z => ?_)
    · replace h := h.2 z
      refine gx_sub [0, 1, 2] rfl ?_
      exact tb_X3_marksUp_106 C hK h hk32 hk40
    · replace h := h.1 z
      refine gx_aload_n C dX3_marksUp_65 rfl 0 rfl ?_
      refine gx_iload_n C dX3_marksUp_66 rfl 2 rfl ?_
      refine gx_iload C dX3_marksUp_67 3 rfl ?_
      refine tm_calli (rest := []) C hK (fun sz => tk_X3_parent h) (cwV 2 C.t (lw_V q2738 q2740 qs94 q130 q2741) rfl rfl rfl ⟨rfl, dmX3_parent⟩ ⟨Nat.le_of_ble_eq_true rfl, Nat.le_of_ble_eq_true rfl⟩) rfl rfl (Nat.le_of_ble_eq_true rfl) dX3_marksUp_69 (fun r69 M69 h => ?_)
      refine gx_istore (lv' := [(5, .int r69), (0, .ref (g 0)), (2, .int a2), (3, .int a3), (4, .int a4)]) C dX3_marksUp_72 (by decide) rfl ?_
      refine gx_iload C dX3_marksUp_74 0 rfl ?_
      refine gx_iconst (v := (-1)) C dX3_marksUp_76 (by decide) ?_
      refine gx_icmp_eq (tgt := 100) C dX3_marksUp_77 (by decide) (fun z => ?_) (fun z => ?_)
      · replace h := h.1 z
        refine gx_sub [1, 2, 3, 4] rfl ?_
        exact tb_X3_marksUp_100 C hK h hk32 hk40 hk49
      · replace h := h.2 z
        refine gx_aload_n C dX3_marksUp_80 rfl 1 rfl ?_
        refine tm_get C hK 8 (by decide) q2308 rfl rfl dX3_marksUp_81 ?_
        refine gx_iload C dX3_marksUp_84 0 rfl ?_
        obtain ⟨g86, h⟩ := h
        refine tm_ald4 C hK g86 dX3_marksUp_86 ?_
        refine gx_if_ne (tgt := 100) C dX3_marksUp_87 (by decide) (fun z => ?_) (fun z => ?_)
        · replace h := h.2 z
          refine gx_sub [1, 2, 3, 4] rfl ?_
          exact tb_X3_marksUp_100 C hK h hk32 hk40 hk49
        · replace h := h.1 z
          refine gx_aload_n C dX3_marksUp_90 rfl 1 rfl ?_
          refine tm_get C hK 8 (by decide) q2308 rfl rfl dX3_marksUp_91 ?_
          refine gx_iload C dX3_marksUp_94 0 rfl ?_
          refine gx_iconst (v := 1) C dX3_marksUp_96 (by decide) ?_
          obtain ⟨g97, h⟩ := h
          refine tm_ast4 C hK g97 dX3_marksUp_97 (fun M97 e_M97 => ?_)
          replace h := h M97 e_M97
          refine gx_iconst (v := 1) C dX3_marksUp_98 (by decide) ?_
          refine gx_istore_n (lv' := [(2, .int 1), (5, .int r69), (0, .ref (g 0)), (3, .int a3), (4, .int a4)]) C dX3_marksUp_99 rfl (by decide) rfl ?_
          refine gx_sub [2, 0, 3, 4] rfl ?_
          exact tb_X3_marksUp_100 C hK h hk32 hk40 hk49
def tl_X3_marksUp_49 (k32 : MS → Int32 → Prop) (k40 : MS → Int32 → Int32 → Prop) (Q : MS → Prop) : Nat → MS → Int32 → Int32 → Int32 → Prop
  | 0, _, _, _, _ => False
  | n + 1, M, a2, a3, a4 => tj_X3_marksUp_49 M a2 a3 a4 (fun M a2 a3 a4 => tl_X3_marksUp_49 k32 k40 Q n M a2 a3 a4) k32 k40 Q
theorem te_X3_marksUp_49 {l : Launch} {p : Program} {e : Env} {s : State} {m : MethodId} {args : Array Value} {below : List Frame} {meth : Method} {c : Code} {D : va_G} {g : Nat → Nat} {cI cJ : ClassId} (C : gx_C p s m args meth c cX3_marksUp 6 none RX3) (hK : va_K D gcl [(cI, .int), (cJ, .long)] s) {k32 : MS → Int32 → Prop} {k40 : MS → Int32 → Int32 → Prop} {Q : MS → Prop} (hk32 : ∀ (M : MS) (a2 : Int32), k32 M a2 → gx_W p l e (headSpec (ws_ yX3_marksUp cX3_marksUp 6 none) rmX3_marksUp).room s m args below meth c 6 (tm_I D g cI cJ s M) 0 0 (MQ below (va_Qv Q (tm_B D g cI cJ s.heap.size) (tm_A g s.heap.size)) args s 0 0 (tm_A g s.heap.size)) 32 [(0, .ref (g 0)), (2, .int a2)] []) (hk40 : ∀ (M : MS) (a2 : Int32) (a3 : Int32), k40 M a2 a3 → gx_W p l e (headSpec (ws_ yX3_marksUp cX3_marksUp 6 none) rmX3_marksUp).room s m args below meth c 6 (tm_I D g cI cJ s M) 0 0 (MQ below (va_Qv Q (tm_B D g cI cJ s.heap.size) (tm_A g s.heap.size)) args s 0 0 (tm_A g s.heap.size)) 40 [(0, .ref (g 0)), (2, .int a2), (3, .int a3)] []) (n : Nat) : ∀ (M : MS) (a2 : Int32) (a3 : Int32) (a4 : Int32), tl_X3_marksUp_49 k32 k40 Q n M a2 a3 a4 → gx_W p l e (headSpec (ws_ yX3_marksUp cX3_marksUp 6 none) rmX3_marksUp).room s m args below meth c 6 (tm_I D g cI cJ s M) 0 0 (MQ below (va_Qv Q (tm_B D g cI cJ s.heap.size) (tm_A g s.heap.size)) args s 0 0 (tm_A g s.heap.size)) 49 [(0, .ref (g 0)), (2, .int a2), (3, .int a3), (4, .int a4)] [] := by
  induction n with
  | zero => intro M a2 a3 a4 h; exact False.elim h
  | succ n ih => intro M a2 a3 a4 h; exact tb_X3_marksUp_49 C hK (show tj_X3_marksUp_49 M a2 a3 a4 (fun M a2 a3 a4 => tl_X3_marksUp_49 k32 k40 Q n M a2 a3 a4) k32 k40 Q from h) (fun M a2 a3 a4 h => ih M a2 a3 a4 h) hk32 hk40
def tj_X3_marksUp_40 (M : MS) (a2 : Int32) (a3 : Int32) (k40 : MS → Int32 → Int32 → Prop) (k32 : MS → Int32 → Prop) (Q : MS → Prop) : Prop :=
  ((100 ≤ a3 → k32 M a2) ∧ (¬ (100 ≤ a3) → ∃ n : Nat, tl_X3_marksUp_49 k32 k40 Q n M a2 a3 3))
theorem tb_X3_marksUp_40 {l : Launch} {p : Program} {e : Env} {s : State} {m : MethodId} {args : Array Value} {below : List Frame} {meth : Method} {c : Code} {D : va_G} {g : Nat → Nat} {cI cJ : ClassId} (C : gx_C p s m args meth c cX3_marksUp 6 none RX3) (hK : va_K D gcl [(cI, .int), (cJ, .long)] s) {M : MS} {a2 : Int32} {a3 : Int32} {k40 : MS → Int32 → Int32 → Prop} {k32 : MS → Int32 → Prop} {Q : MS → Prop} (h : tj_X3_marksUp_40 M a2 a3 k40 k32 Q) (hk40 : ∀ (M : MS) (a2 : Int32) (a3 : Int32), k40 M a2 a3 → gx_W p l e (headSpec (ws_ yX3_marksUp cX3_marksUp 6 none) rmX3_marksUp).room s m args below meth c 6 (tm_I D g cI cJ s M) 0 0 (MQ below (va_Qv Q (tm_B D g cI cJ s.heap.size) (tm_A g s.heap.size)) args s 0 0 (tm_A g s.heap.size)) 40 [(0, .ref (g 0)), (2, .int a2), (3, .int a3)] []) (hk32 : ∀ (M : MS) (a2 : Int32), k32 M a2 → gx_W p l e (headSpec (ws_ yX3_marksUp cX3_marksUp 6 none) rmX3_marksUp).room s m args below meth c 6 (tm_I D g cI cJ s M) 0 0 (MQ below (va_Qv Q (tm_B D g cI cJ s.heap.size) (tm_A g s.heap.size)) args s 0 0 (tm_A g s.heap.size)) 32 [(0, .ref (g 0)), (2, .int a2)] []) : gx_W p l e (headSpec (ws_ yX3_marksUp cX3_marksUp 6 none) rmX3_marksUp).room s m args below meth c 6 (tm_I D g cI cJ s M) 0 0 (MQ below (va_Qv Q (tm_B D g cI cJ s.heap.size) (tm_A g s.heap.size)) args s 0 0 (tm_A g s.heap.size)) 40 [(0, .ref (g 0)), (2, .int a2), (3, .int a3)] [] := by
  unfold tj_X3_marksUp_40 at h
  refine gx_iload_n C dX3_marksUp_40 rfl 2 rfl ?_
  refine gx_bipush (v := 100) C dX3_marksUp_41 (by decide) ?_
  refine gx_icmp_ge (tgt := 112) C dX3_marksUp_43 (by decide) (fun z => ?_) (fun z => ?_)
  · replace h := h.1 z
    refine gx_goto (tgt := 32) C dX3_marksUp_112 (by decide) ?_
    refine gx_sub [0, 1] rfl ?_
    exact hk32 M a2 h
  · replace h := h.2 z
    refine gx_iconst (v := 3) C dX3_marksUp_46 (by decide) ?_
    refine gx_istore (lv' := [(4, .int 3), (0, .ref (g 0)), (2, .int a2), (3, .int a3)]) C dX3_marksUp_47 (by decide) rfl ?_
    refine gx_sub [1, 2, 3, 0] rfl ?_
    obtain ⟨n, h⟩ := h
    exact te_X3_marksUp_49 C hK hk32 hk40 n M a2 a3 3 h
def tl_X3_marksUp_40 (k32 : MS → Int32 → Prop) (Q : MS → Prop) : Nat → MS → Int32 → Int32 → Prop
  | 0, _, _, _ => False
  | n + 1, M, a2, a3 => tj_X3_marksUp_40 M a2 a3 (fun M a2 a3 => tl_X3_marksUp_40 k32 Q n M a2 a3) k32 Q
theorem te_X3_marksUp_40 {l : Launch} {p : Program} {e : Env} {s : State} {m : MethodId} {args : Array Value} {below : List Frame} {meth : Method} {c : Code} {D : va_G} {g : Nat → Nat} {cI cJ : ClassId} (C : gx_C p s m args meth c cX3_marksUp 6 none RX3) (hK : va_K D gcl [(cI, .int), (cJ, .long)] s) {k32 : MS → Int32 → Prop} {Q : MS → Prop} (hk32 : ∀ (M : MS) (a2 : Int32), k32 M a2 → gx_W p l e (headSpec (ws_ yX3_marksUp cX3_marksUp 6 none) rmX3_marksUp).room s m args below meth c 6 (tm_I D g cI cJ s M) 0 0 (MQ below (va_Qv Q (tm_B D g cI cJ s.heap.size) (tm_A g s.heap.size)) args s 0 0 (tm_A g s.heap.size)) 32 [(0, .ref (g 0)), (2, .int a2)] []) (n : Nat) : ∀ (M : MS) (a2 : Int32) (a3 : Int32), tl_X3_marksUp_40 k32 Q n M a2 a3 → gx_W p l e (headSpec (ws_ yX3_marksUp cX3_marksUp 6 none) rmX3_marksUp).room s m args below meth c 6 (tm_I D g cI cJ s M) 0 0 (MQ below (va_Qv Q (tm_B D g cI cJ s.heap.size) (tm_A g s.heap.size)) args s 0 0 (tm_A g s.heap.size)) 40 [(0, .ref (g 0)), (2, .int a2), (3, .int a3)] [] := by
  induction n with
  | zero => intro M a2 a3 h; exact False.elim h
  | succ n ih => intro M a2 a3 h; exact tb_X3_marksUp_40 C hK (show tj_X3_marksUp_40 M a2 a3 (fun M a2 a3 => tl_X3_marksUp_40 k32 Q n M a2 a3) k32 Q from h) (fun M a2 a3 h => ih M a2 a3 h) hk32
def tj_X3_marksUp_32 (M : MS) (a2 : Int32) (k32 : MS → Int32 → Prop) (Q : MS → Prop) : Prop :=
  ((a2 = 0 → Q M) ∧ (¬ (a2 = 0) → ∃ n : Nat, tl_X3_marksUp_40 k32 Q n M 0 0))
theorem tb_X3_marksUp_32 {l : Launch} {p : Program} {e : Env} {s : State} {m : MethodId} {args : Array Value} {below : List Frame} {meth : Method} {c : Code} {D : va_G} {g : Nat → Nat} {cI cJ : ClassId} (C : gx_C p s m args meth c cX3_marksUp 6 none RX3) (hK : va_K D gcl [(cI, .int), (cJ, .long)] s) {M : MS} {a2 : Int32} {k32 : MS → Int32 → Prop} {Q : MS → Prop} (h : tj_X3_marksUp_32 M a2 k32 Q) (hk32 : ∀ (M : MS) (a2 : Int32), k32 M a2 → gx_W p l e (headSpec (ws_ yX3_marksUp cX3_marksUp 6 none) rmX3_marksUp).room s m args below meth c 6 (tm_I D g cI cJ s M) 0 0 (MQ below (va_Qv Q (tm_B D g cI cJ s.heap.size) (tm_A g s.heap.size)) args s 0 0 (tm_A g s.heap.size)) 32 [(0, .ref (g 0)), (2, .int a2)] []) : gx_W p l e (headSpec (ws_ yX3_marksUp cX3_marksUp 6 none) rmX3_marksUp).room s m args below meth c 6 (tm_I D g cI cJ s M) 0 0 (MQ below (va_Qv Q (tm_B D g cI cJ s.heap.size) (tm_A g s.heap.size)) args s 0 0 (tm_A g s.heap.size)) 32 [(0, .ref (g 0)), (2, .int a2)] [] := by
  unfold tj_X3_marksUp_32 at h
  refine gx_iload_n C dX3_marksUp_32 rfl 1 rfl ?_
  refine gx_if_eq (tgt := 115) C dX3_marksUp_33 (by decide) (fun z => ?_) (fun z => ?_)
  · replace h := h.1 z
    exact tm_vret C hK h dX3_marksUp_115
  · replace h := h.2 z
    refine gx_iconst (v := 0) C dX3_marksUp_36 (by decide) ?_
    refine gx_istore_n (lv' := [(2, .int 0), (0, .ref (g 0))]) C dX3_marksUp_37 rfl (by decide) rfl ?_
    refine gx_iconst (v := 0) C dX3_marksUp_38 (by decide) ?_
    refine gx_istore_n (lv' := [(3, .int 0), (2, .int 0), (0, .ref (g 0))]) C dX3_marksUp_39 rfl (by decide) rfl ?_
    refine gx_sub [2, 1, 0] rfl ?_
    obtain ⟨n, h⟩ := h
    exact te_X3_marksUp_40 C hK hk32 n M 0 0 h
def tl_X3_marksUp_32 (Q : MS → Prop) : Nat → MS → Int32 → Prop
  | 0, _, _ => False
  | n + 1, M, a2 => tj_X3_marksUp_32 M a2 (fun M a2 => tl_X3_marksUp_32 Q n M a2) Q
theorem te_X3_marksUp_32 {l : Launch} {p : Program} {e : Env} {s : State} {m : MethodId} {args : Array Value} {below : List Frame} {meth : Method} {c : Code} {D : va_G} {g : Nat → Nat} {cI cJ : ClassId} (C : gx_C p s m args meth c cX3_marksUp 6 none RX3) (hK : va_K D gcl [(cI, .int), (cJ, .long)] s) {Q : MS → Prop}  (n : Nat) : ∀ (M : MS) (a2 : Int32), tl_X3_marksUp_32 Q n M a2 → gx_W p l e (headSpec (ws_ yX3_marksUp cX3_marksUp 6 none) rmX3_marksUp).room s m args below meth c 6 (tm_I D g cI cJ s M) 0 0 (MQ below (va_Qv Q (tm_B D g cI cJ s.heap.size) (tm_A g s.heap.size)) args s 0 0 (tm_A g s.heap.size)) 32 [(0, .ref (g 0)), (2, .int a2)] [] := by
  induction n with
  | zero => intro M a2 h; exact False.elim h
  | succ n ih => intro M a2 h; exact tb_X3_marksUp_32 C hK (show tj_X3_marksUp_32 M a2 (fun M a2 => tl_X3_marksUp_32 Q n M a2) Q from h) (fun M a2 h => ih M a2 h)
def tj_X3_marksUp_2 (M : MS) (a1 : Int32) (a2 : Int32) (k2 : MS → Int32 → Int32 → Prop) (Q : MS → Prop) : Prop :=
  ((100 ≤ a2 → ∃ n : Nat, tl_X3_marksUp_32 Q n M 1) ∧ (¬ (100 ≤ a2) → (vp_in a2 100 ∧ ∀ M23 : MS, M23 = ms_a M 4 a2 (if a2 = a1 then 1 else 0) → k2 M23 a1 (a2 + 1))))
theorem tb_X3_marksUp_2 {l : Launch} {p : Program} {e : Env} {s : State} {m : MethodId} {args : Array Value} {below : List Frame} {meth : Method} {c : Code} {D : va_G} {g : Nat → Nat} {cI cJ : ClassId} (C : gx_C p s m args meth c cX3_marksUp 6 none RX3) (hK : va_K D gcl [(cI, .int), (cJ, .long)] s) {M : MS} {a1 : Int32} {a2 : Int32} {k2 : MS → Int32 → Int32 → Prop} {Q : MS → Prop} (h : tj_X3_marksUp_2 M a1 a2 k2 Q) (hk2 : ∀ (M : MS) (a1 : Int32) (a2 : Int32), k2 M a1 a2 → gx_W p l e (headSpec (ws_ yX3_marksUp cX3_marksUp 6 none) rmX3_marksUp).room s m args below meth c 6 (tm_I D g cI cJ s M) 0 0 (MQ below (va_Qv Q (tm_B D g cI cJ s.heap.size) (tm_A g s.heap.size)) args s 0 0 (tm_A g s.heap.size)) 2 [(0, .ref (g 0)), (1, .int a1), (2, .int a2)] []) : gx_W p l e (headSpec (ws_ yX3_marksUp cX3_marksUp 6 none) rmX3_marksUp).room s m args below meth c 6 (tm_I D g cI cJ s M) 0 0 (MQ below (va_Qv Q (tm_B D g cI cJ s.heap.size) (tm_A g s.heap.size)) args s 0 0 (tm_A g s.heap.size)) 2 [(0, .ref (g 0)), (1, .int a1), (2, .int a2)] [] := by
  unfold tj_X3_marksUp_2 at h
  refine gx_iload_n C dX3_marksUp_2 rfl 2 rfl ?_
  refine gx_bipush (v := 100) C dX3_marksUp_3 (by decide) ?_
  refine gx_icmp_ge (tgt := 30) C dX3_marksUp_5 (by decide) (fun z => ?_) (fun z => ?_)
  · replace h := h.1 z
    refine gx_iconst (v := 1) C dX3_marksUp_30 (by decide) ?_
    refine gx_istore_n (lv' := [(2, .int 1), (0, .ref (g 0)), (1, .int a1)]) C dX3_marksUp_31 rfl (by decide) rfl ?_
    refine gx_sub [1, 0] rfl ?_
    obtain ⟨n, h⟩ := h
    exact te_X3_marksUp_32 C hK n M 1 h
  · replace h := h.2 z
    refine gx_aload_n C dX3_marksUp_8 rfl 0 rfl ?_
    refine tm_get C hK 8 (by decide) q2308 rfl rfl dX3_marksUp_9 ?_
    refine gx_iload_n C dX3_marksUp_12 rfl 2 rfl ?_
    refine gx_iload_n C dX3_marksUp_13 rfl 2 rfl ?_
    refine gx_iload_n C dX3_marksUp_14 rfl 1 rfl ?_
    refine gx_phii (t := (if a2 = a1 then 1 else 0)) (pc2 := 23) (lv2 := [(0, .ref (g 0)), (1, .int a1), (2, .int a2)]) (rest2 := [.int a2, .ref (g 6)]) (fun key => ?_) ?_
    · refine gx_icmp_ne (tgt := 22) C dX3_marksUp_15 (by decide) (fun z1 => ?_) (fun z1 => ?_)
      · refine gx_iconst (v := 0) C dX3_marksUp_22 (by decide) ?_
        exact gx_casti (if_neg z1) key
      · refine gx_iconst (v := 1) C dX3_marksUp_18 (by decide) ?_
        refine gx_goto (tgt := 23) C dX3_marksUp_19 (by decide) ?_
        exact gx_casti (if_pos z1) key
    obtain ⟨g23, h⟩ := h
    refine tm_ast4 C hK g23 dX3_marksUp_23 (fun M23 e_M23 => ?_)
    replace h := h M23 e_M23
    refine gx_iinc (v := a2 + 1) (k := 2) (lv' := [(2, .int (a2 + 1)), (0, .ref (g 0)), (1, .int a1)]) C dX3_marksUp_24 rfl rfl (by decide) rfl ?_
    refine gx_goto (tgt := 2) C dX3_marksUp_27 (by decide) ?_
    refine gx_sub [1, 2, 0] rfl ?_
    exact hk2 M23 a1 (a2 + 1) h
def tl_X3_marksUp_2 (Q : MS → Prop) : Nat → MS → Int32 → Int32 → Prop
  | 0, _, _, _ => False
  | n + 1, M, a1, a2 => tj_X3_marksUp_2 M a1 a2 (fun M a1 a2 => tl_X3_marksUp_2 Q n M a1 a2) Q
theorem te_X3_marksUp_2 {l : Launch} {p : Program} {e : Env} {s : State} {m : MethodId} {args : Array Value} {below : List Frame} {meth : Method} {c : Code} {D : va_G} {g : Nat → Nat} {cI cJ : ClassId} (C : gx_C p s m args meth c cX3_marksUp 6 none RX3) (hK : va_K D gcl [(cI, .int), (cJ, .long)] s) {Q : MS → Prop}  (n : Nat) : ∀ (M : MS) (a1 : Int32) (a2 : Int32), tl_X3_marksUp_2 Q n M a1 a2 → gx_W p l e (headSpec (ws_ yX3_marksUp cX3_marksUp 6 none) rmX3_marksUp).room s m args below meth c 6 (tm_I D g cI cJ s M) 0 0 (MQ below (va_Qv Q (tm_B D g cI cJ s.heap.size) (tm_A g s.heap.size)) args s 0 0 (tm_A g s.heap.size)) 2 [(0, .ref (g 0)), (1, .int a1), (2, .int a2)] [] := by
  induction n with
  | zero => intro M a1 a2 h; exact False.elim h
  | succ n ih => intro M a1 a2 h; exact tb_X3_marksUp_2 C hK (show tj_X3_marksUp_2 M a1 a2 (fun M a1 a2 => tl_X3_marksUp_2 Q n M a1 a2) Q from h) (fun M a1 a2 h => ih M a1 a2 h)
def tw_X3_marksUp (M : MS) (a1 : Int32) (Q : MS → Prop) : Prop :=
  ∃ n : Nat, tl_X3_marksUp_2 Q n M a1 0
theorem tk_X3_marksUp {l : Launch} {D : va_G} {g : Nat → Nat} {cI cJ : ClassId} {sz : Nat} {M : MS} {a1 : Int32} {Q : MS → Prop} (h : tw_X3_marksUp M a1 Q) : tm_Met l yX3_marksUp cX3_marksUp 6 none rmX3_marksUp [.int a1] D g cI cJ sz M (va_Qv Q (tm_B D g cI cJ sz) (tm_A g sz)) := by
  refine tm_entry (by decide) (Nat.le_of_ble_eq_true rfl) (fun p e s m args below meth c hsz C hK => ?_)
  subst hsz
  unfold tw_X3_marksUp at h
  show gx_W p l e (headSpec (ws_ yX3_marksUp cX3_marksUp 6 none) rmX3_marksUp).room s m args below meth c 6 (tm_I D g cI cJ s M) 0 0 (MQ below (va_Qv Q (tm_B D g cI cJ s.heap.size) (tm_A g s.heap.size)) args s 0 0 (tm_A g s.heap.size)) 0 [(0, .ref (g 0)), (1, .int a1)] []
  refine gx_iconst (v := 0) C dX3_marksUp_0 (by decide) ?_
  refine gx_istore_n (lv' := [(2, .int 0), (0, .ref (g 0)), (1, .int a1)]) C dX3_marksUp_1 rfl (by decide) rfl ?_
  refine gx_sub [1, 2, 0] rfl ?_
  obtain ⟨n, h⟩ := h
  exact te_X3_marksUp_2 C hK n M a1 0 h
/-! kin(II)Z -/
abbrev rmX3_kin : Room := { frames := 5, cells := 0, slots := 0, locals := 115 }
theorem dmX3_kin : yX3_kin.cls ≠ "java/lang/invoke/MethodHandle" ∧ yX3_kin.cls ≠ "java/lang/invoke/VarHandle" ∧ (parseMethodDescriptor yX3_kin.desc).map (fun d => d.parameters.length) = some 2 := by decide +kernel
def tj_X3_kin_79 (M : MS) (a4 : Int32) (s0 : Int32) (k41 : MS → Int32 → Int32 → Prop) (Q : Int32 → MS → Prop) : Prop :=
  k41 M s0 (a4 + 1)
theorem tb_X3_kin_79 {l : Launch} {p : Program} {e : Env} {s : State} {m : MethodId} {args : Array Value} {below : List Frame} {meth : Method} {c : Code} {D : va_G} {g : Nat → Nat} {cI cJ : ClassId} (C : gx_C p s m args meth c cX3_kin 5 (some .boolean) RX3) (hK : va_K D gcl [(cI, .int), (cJ, .long)] s) {M : MS} {a4 : Int32} {s0 : Int32} {k41 : MS → Int32 → Int32 → Prop} {Q : Int32 → MS → Prop} (h : tj_X3_kin_79 M a4 s0 k41 Q) (hk41 : ∀ (M : MS) (a3 : Int32) (a4 : Int32), k41 M a3 a4 → gx_W p l e (headSpec (ws_ yX3_kin cX3_kin 5 (some .boolean)) rmX3_kin).room s m args below meth c 5 (tm_I D g cI cJ s M) 0 0 (MQ below (va_Qi Q (tm_B D g cI cJ s.heap.size) (tm_A g s.heap.size)) args s 0 0 (tm_A g s.heap.size)) 41 [(0, .ref (g 0)), (3, .int a3), (4, .int a4)] []) : gx_W p l e (headSpec (ws_ yX3_kin cX3_kin 5 (some .boolean)) rmX3_kin).room s m args below meth c 5 (tm_I D g cI cJ s M) 0 0 (MQ below (va_Qi Q (tm_B D g cI cJ s.heap.size) (tm_A g s.heap.size)) args s 0 0 (tm_A g s.heap.size)) 79 [(0, .ref (g 0)), (4, .int a4)] [.int s0] := by
  unfold tj_X3_kin_79 at h
  refine gx_istore_n (lv' := [(3, .int s0), (0, .ref (g 0)), (4, .int a4)]) C dX3_kin_79 rfl (by decide) rfl ?_
  refine gx_iinc (v := a4 + 1) (k := 2) (lv' := [(4, .int (a4 + 1)), (3, .int s0), (0, .ref (g 0))]) C dX3_kin_80 rfl rfl (by decide) rfl ?_
  refine gx_goto (tgt := 41) C dX3_kin_83 (by decide) ?_
  refine gx_sub [2, 1, 0] rfl ?_
  exact hk41 M s0 (a4 + 1) h
def tj_X3_kin_78 (M : MS) (a4 : Int32) (k41 : MS → Int32 → Int32 → Prop) (Q : Int32 → MS → Prop) : Prop :=
  tj_X3_kin_79 M a4 0 k41 Q
theorem tb_X3_kin_78 {l : Launch} {p : Program} {e : Env} {s : State} {m : MethodId} {args : Array Value} {below : List Frame} {meth : Method} {c : Code} {D : va_G} {g : Nat → Nat} {cI cJ : ClassId} (C : gx_C p s m args meth c cX3_kin 5 (some .boolean) RX3) (hK : va_K D gcl [(cI, .int), (cJ, .long)] s) {M : MS} {a4 : Int32} {k41 : MS → Int32 → Int32 → Prop} {Q : Int32 → MS → Prop} (h : tj_X3_kin_78 M a4 k41 Q) (hk41 : ∀ (M : MS) (a3 : Int32) (a4 : Int32), k41 M a3 a4 → gx_W p l e (headSpec (ws_ yX3_kin cX3_kin 5 (some .boolean)) rmX3_kin).room s m args below meth c 5 (tm_I D g cI cJ s M) 0 0 (MQ below (va_Qi Q (tm_B D g cI cJ s.heap.size) (tm_A g s.heap.size)) args s 0 0 (tm_A g s.heap.size)) 41 [(0, .ref (g 0)), (3, .int a3), (4, .int a4)] []) : gx_W p l e (headSpec (ws_ yX3_kin cX3_kin 5 (some .boolean)) rmX3_kin).room s m args below meth c 5 (tm_I D g cI cJ s M) 0 0 (MQ below (va_Qi Q (tm_B D g cI cJ s.heap.size) (tm_A g s.heap.size)) args s 0 0 (tm_A g s.heap.size)) 78 [(0, .ref (g 0)), (4, .int a4)] [] := by
  unfold tj_X3_kin_78 at h
  refine gx_iconst (v := 0) C dX3_kin_78 (by decide) ?_
  exact tb_X3_kin_79 C hK h hk41
def tj_X3_kin_74 (M : MS) (a4 : Int32) (k41 : MS → Int32 → Int32 → Prop) (Q : Int32 → MS → Prop) : Prop :=
  tj_X3_kin_79 M a4 1 k41 Q
theorem tb_X3_kin_74 {l : Launch} {p : Program} {e : Env} {s : State} {m : MethodId} {args : Array Value} {below : List Frame} {meth : Method} {c : Code} {D : va_G} {g : Nat → Nat} {cI cJ : ClassId} (C : gx_C p s m args meth c cX3_kin 5 (some .boolean) RX3) (hK : va_K D gcl [(cI, .int), (cJ, .long)] s) {M : MS} {a4 : Int32} {k41 : MS → Int32 → Int32 → Prop} {Q : Int32 → MS → Prop} (h : tj_X3_kin_74 M a4 k41 Q) (hk41 : ∀ (M : MS) (a3 : Int32) (a4 : Int32), k41 M a3 a4 → gx_W p l e (headSpec (ws_ yX3_kin cX3_kin 5 (some .boolean)) rmX3_kin).room s m args below meth c 5 (tm_I D g cI cJ s M) 0 0 (MQ below (va_Qi Q (tm_B D g cI cJ s.heap.size) (tm_A g s.heap.size)) args s 0 0 (tm_A g s.heap.size)) 41 [(0, .ref (g 0)), (3, .int a3), (4, .int a4)] []) : gx_W p l e (headSpec (ws_ yX3_kin cX3_kin 5 (some .boolean)) rmX3_kin).room s m args below meth c 5 (tm_I D g cI cJ s M) 0 0 (MQ below (va_Qi Q (tm_B D g cI cJ s.heap.size) (tm_A g s.heap.size)) args s 0 0 (tm_A g s.heap.size)) 74 [(0, .ref (g 0)), (4, .int a4)] [] := by
  unfold tj_X3_kin_74 at h
  refine gx_iconst (v := 1) C dX3_kin_74 (by decide) ?_
  refine gx_goto (tgt := 79) C dX3_kin_75 (by decide) ?_
  exact tb_X3_kin_79 C hK h hk41
def tj_X3_kin_41 (M : MS) (a3 : Int32) (a4 : Int32) (k41 : MS → Int32 → Int32 → Prop) (Q : Int32 → MS → Prop) : Prop :=
  ((100 ≤ a4 → (narrow .boolean (.int a3) = .int a3 ∧ Q a3 M)) ∧ (¬ (100 ≤ a4) → ((a3 = 0 → (vp_in a4 100 ∧ (((ms_r M 5 a4) = 1 → (vp_in a4 100 ∧ (((ms_r M 4 a4) = 1 → tj_X3_kin_74 M a4 k41 Q) ∧ (¬ (ms_r M 4 a4) = 1 → tj_X3_kin_78 M a4 k41 Q)))) ∧ (¬ (ms_r M 5 a4) = 1 → tj_X3_kin_78 M a4 k41 Q)))) ∧ (¬ (a3 = 0) → tj_X3_kin_74 M a4 k41 Q))))
theorem tb_X3_kin_41 {l : Launch} {p : Program} {e : Env} {s : State} {m : MethodId} {args : Array Value} {below : List Frame} {meth : Method} {c : Code} {D : va_G} {g : Nat → Nat} {cI cJ : ClassId} (C : gx_C p s m args meth c cX3_kin 5 (some .boolean) RX3) (hK : va_K D gcl [(cI, .int), (cJ, .long)] s) {M : MS} {a3 : Int32} {a4 : Int32} {k41 : MS → Int32 → Int32 → Prop} {Q : Int32 → MS → Prop} (h : tj_X3_kin_41 M a3 a4 k41 Q) (hk41 : ∀ (M : MS) (a3 : Int32) (a4 : Int32), k41 M a3 a4 → gx_W p l e (headSpec (ws_ yX3_kin cX3_kin 5 (some .boolean)) rmX3_kin).room s m args below meth c 5 (tm_I D g cI cJ s M) 0 0 (MQ below (va_Qi Q (tm_B D g cI cJ s.heap.size) (tm_A g s.heap.size)) args s 0 0 (tm_A g s.heap.size)) 41 [(0, .ref (g 0)), (3, .int a3), (4, .int a4)] []) : gx_W p l e (headSpec (ws_ yX3_kin cX3_kin 5 (some .boolean)) rmX3_kin).room s m args below meth c 5 (tm_I D g cI cJ s M) 0 0 (MQ below (va_Qi Q (tm_B D g cI cJ s.heap.size) (tm_A g s.heap.size)) args s 0 0 (tm_A g s.heap.size)) 41 [(0, .ref (g 0)), (3, .int a3), (4, .int a4)] [] := by
  unfold tj_X3_kin_41 at h
  refine gx_iload C dX3_kin_41 2 rfl ?_
  refine gx_bipush (v := 100) C dX3_kin_43 (by decide) ?_
  refine gx_icmp_ge (tgt := 86) C dX3_kin_45 (by decide) (fun z => ?_) (fun z => ?_)
  · replace h := h.1 z
    refine gx_iload_n C dX3_kin_86 rfl 1 rfl ?_
    obtain ⟨g87, h⟩ := h
    exact tm_zret C hK g87 h dX3_kin_87
  · replace h := h.2 z
    refine gx_iload_n C dX3_kin_48 rfl 1 rfl ?_
    refine gx_if_ne (tgt := 74) C dX3_kin_49 (by decide) (fun z => ?_) (fun z => ?_)
    · replace h := h.2 z
      refine gx_sub [0, 2] rfl ?_
      exact tb_X3_kin_74 C hK h hk41
    · replace h := h.1 z
      refine gx_aload_n C dX3_kin_52 rfl 0 rfl ?_
      refine tm_get C hK 9 (by decide) q2309 rfl rfl dX3_kin_53 ?_
      refine gx_iload C dX3_kin_56 2 rfl ?_
      obtain ⟨g58, h⟩ := h
      refine tm_ald5 C hK g58 dX3_kin_58 ?_
      refine gx_iconst (v := 1) C dX3_kin_59 (by decide) ?_
      refine gx_icmp_ne (tgt := 78) C dX3_kin_60 (by decide) (fun z => ?_) (fun z => ?_)
      · replace h := h.2 z
        refine gx_sub [0, 2] rfl ?_
        exact tb_X3_kin_78 C hK h hk41
      · replace h := h.1 z
        refine gx_aload_n C dX3_kin_63 rfl 0 rfl ?_
        refine tm_get C hK 8 (by decide) q2308 rfl rfl dX3_kin_64 ?_
        refine gx_iload C dX3_kin_67 2 rfl ?_
        obtain ⟨g69, h⟩ := h
        refine tm_ald4 C hK g69 dX3_kin_69 ?_
        refine gx_iconst (v := 1) C dX3_kin_70 (by decide) ?_
        refine gx_icmp_ne (tgt := 78) C dX3_kin_71 (by decide) (fun z => ?_) (fun z => ?_)
        · replace h := h.2 z
          refine gx_sub [0, 2] rfl ?_
          exact tb_X3_kin_78 C hK h hk41
        · replace h := h.1 z
          refine gx_sub [0, 2] rfl ?_
          exact tb_X3_kin_74 C hK h hk41
def tl_X3_kin_41 (Q : Int32 → MS → Prop) : Nat → MS → Int32 → Int32 → Prop
  | 0, _, _, _ => False
  | n + 1, M, a3, a4 => tj_X3_kin_41 M a3 a4 (fun M a3 a4 => tl_X3_kin_41 Q n M a3 a4) Q
theorem te_X3_kin_41 {l : Launch} {p : Program} {e : Env} {s : State} {m : MethodId} {args : Array Value} {below : List Frame} {meth : Method} {c : Code} {D : va_G} {g : Nat → Nat} {cI cJ : ClassId} (C : gx_C p s m args meth c cX3_kin 5 (some .boolean) RX3) (hK : va_K D gcl [(cI, .int), (cJ, .long)] s) {Q : Int32 → MS → Prop}  (n : Nat) : ∀ (M : MS) (a3 : Int32) (a4 : Int32), tl_X3_kin_41 Q n M a3 a4 → gx_W p l e (headSpec (ws_ yX3_kin cX3_kin 5 (some .boolean)) rmX3_kin).room s m args below meth c 5 (tm_I D g cI cJ s M) 0 0 (MQ below (va_Qi Q (tm_B D g cI cJ s.heap.size) (tm_A g s.heap.size)) args s 0 0 (tm_A g s.heap.size)) 41 [(0, .ref (g 0)), (3, .int a3), (4, .int a4)] [] := by
  induction n with
  | zero => intro M a3 a4 h; exact False.elim h
  | succ n ih => intro M a3 a4 h; exact tb_X3_kin_41 C hK (show tj_X3_kin_41 M a3 a4 (fun M a3 a4 => tl_X3_kin_41 Q n M a3 a4) Q from h) (fun M a3 a4 h => ih M a3 a4 h)
def tj_X3_kin_7 (M : MS) (a2 : Int32) (a3 : Int32) (k7 : MS → Int32 → Int32 → Prop) (Q : Int32 → MS → Prop) : Prop :=
  ((100 ≤ a3 → tw_X3_marksUp M a2 (fun M33 => ∃ n : Nat, tl_X3_kin_41 Q n M33 0 0)) ∧ (¬ (100 ≤ a3) → (vp_in a3 100 ∧ (vp_in a3 100 ∧ ∀ M24 : MS, M24 = ms_a M 5 a3 (ms_r M 4 a3) → k7 M24 a2 (a3 + 1)))))
theorem tb_X3_kin_7 {l : Launch} {p : Program} {e : Env} {s : State} {m : MethodId} {args : Array Value} {below : List Frame} {meth : Method} {c : Code} {D : va_G} {g : Nat → Nat} {cI cJ : ClassId} (C : gx_C p s m args meth c cX3_kin 5 (some .boolean) RX3) (hK : va_K D gcl [(cI, .int), (cJ, .long)] s) {M : MS} {a2 : Int32} {a3 : Int32} {k7 : MS → Int32 → Int32 → Prop} {Q : Int32 → MS → Prop} (h : tj_X3_kin_7 M a2 a3 k7 Q) (hk7 : ∀ (M : MS) (a2 : Int32) (a3 : Int32), k7 M a2 a3 → gx_W p l e (headSpec (ws_ yX3_kin cX3_kin 5 (some .boolean)) rmX3_kin).room s m args below meth c 5 (tm_I D g cI cJ s M) 0 0 (MQ below (va_Qi Q (tm_B D g cI cJ s.heap.size) (tm_A g s.heap.size)) args s 0 0 (tm_A g s.heap.size)) 7 [(0, .ref (g 0)), (2, .int a2), (3, .int a3)] []) : gx_W p l e (headSpec (ws_ yX3_kin cX3_kin 5 (some .boolean)) rmX3_kin).room s m args below meth c 5 (tm_I D g cI cJ s M) 0 0 (MQ below (va_Qi Q (tm_B D g cI cJ s.heap.size) (tm_A g s.heap.size)) args s 0 0 (tm_A g s.heap.size)) 7 [(0, .ref (g 0)), (2, .int a2), (3, .int a3)] [] := by
  unfold tj_X3_kin_7 at h
  refine gx_iload_n C dX3_kin_7 rfl 2 rfl ?_
  refine gx_bipush (v := 100) C dX3_kin_8 (by decide) ?_
  refine gx_icmp_ge (tgt := 31) C dX3_kin_10 (by decide) (fun z => ?_) (fun z => ?_)
  · replace h := h.1 z
    refine gx_aload_n C dX3_kin_31 rfl 0 rfl ?_
    refine gx_iload_n C dX3_kin_32 rfl 1 rfl ?_
    refine tm_callv (rest := []) C hK (fun sz => tk_X3_marksUp h) (cwV 1 C.t (lw_V q2786 q2788 qs101 q130 q2789) rfl rfl rfl ⟨rfl, dmX3_marksUp⟩ ⟨Nat.le_of_ble_eq_true rfl, Nat.le_of_ble_eq_true rfl⟩) rfl rfl (Nat.le_of_ble_eq_true rfl) dX3_kin_33 (fun M33 h => ?_)
    refine gx_iconst (v := 0) C dX3_kin_36 (by decide) ?_
    refine gx_istore_n (lv' := [(3, .int 0), (0, .ref (g 0)), (2, .int a2)]) C dX3_kin_37 rfl (by decide) rfl ?_
    refine gx_iconst (v := 0) C dX3_kin_38 (by decide) ?_
    refine gx_istore (lv' := [(4, .int 0), (3, .int 0), (0, .ref (g 0)), (2, .int a2)]) C dX3_kin_39 (by decide) rfl ?_
    refine gx_sub [2, 1, 0] rfl ?_
    obtain ⟨n, h⟩ := h
    exact te_X3_kin_41 C hK n M33 0 0 h
  · replace h := h.2 z
    refine gx_aload_n C dX3_kin_13 rfl 0 rfl ?_
    refine tm_get C hK 9 (by decide) q2309 rfl rfl dX3_kin_14 ?_
    refine gx_iload_n C dX3_kin_17 rfl 2 rfl ?_
    refine gx_aload_n C dX3_kin_18 rfl 0 rfl ?_
    refine tm_get C hK 8 (by decide) q2308 rfl rfl dX3_kin_19 ?_
    refine gx_iload_n C dX3_kin_22 rfl 2 rfl ?_
    obtain ⟨g23, h⟩ := h
    refine tm_ald4 C hK g23 dX3_kin_23 ?_
    obtain ⟨g24, h⟩ := h
    refine tm_ast5 C hK g24 dX3_kin_24 (fun M24 e_M24 => ?_)
    replace h := h M24 e_M24
    refine gx_iinc (v := a3 + 1) (k := 2) (lv' := [(3, .int (a3 + 1)), (0, .ref (g 0)), (2, .int a2)]) C dX3_kin_25 rfl rfl (by decide) rfl ?_
    refine gx_goto (tgt := 7) C dX3_kin_28 (by decide) ?_
    refine gx_sub [1, 2, 0] rfl ?_
    exact hk7 M24 a2 (a3 + 1) h
def tl_X3_kin_7 (Q : Int32 → MS → Prop) : Nat → MS → Int32 → Int32 → Prop
  | 0, _, _, _ => False
  | n + 1, M, a2, a3 => tj_X3_kin_7 M a2 a3 (fun M a2 a3 => tl_X3_kin_7 Q n M a2 a3) Q
theorem te_X3_kin_7 {l : Launch} {p : Program} {e : Env} {s : State} {m : MethodId} {args : Array Value} {below : List Frame} {meth : Method} {c : Code} {D : va_G} {g : Nat → Nat} {cI cJ : ClassId} (C : gx_C p s m args meth c cX3_kin 5 (some .boolean) RX3) (hK : va_K D gcl [(cI, .int), (cJ, .long)] s) {Q : Int32 → MS → Prop}  (n : Nat) : ∀ (M : MS) (a2 : Int32) (a3 : Int32), tl_X3_kin_7 Q n M a2 a3 → gx_W p l e (headSpec (ws_ yX3_kin cX3_kin 5 (some .boolean)) rmX3_kin).room s m args below meth c 5 (tm_I D g cI cJ s M) 0 0 (MQ below (va_Qi Q (tm_B D g cI cJ s.heap.size) (tm_A g s.heap.size)) args s 0 0 (tm_A g s.heap.size)) 7 [(0, .ref (g 0)), (2, .int a2), (3, .int a3)] [] := by
  induction n with
  | zero => intro M a2 a3 h; exact False.elim h
  | succ n ih => intro M a2 a3 h; exact tb_X3_kin_7 C hK (show tj_X3_kin_7 M a2 a3 (fun M a2 a3 => tl_X3_kin_7 Q n M a2 a3) Q from h) (fun M a2 a3 h => ih M a2 a3 h)
def tw_X3_kin (M : MS) (a1 : Int32) (a2 : Int32) (Q : Int32 → MS → Prop) : Prop :=
  tw_X3_marksUp M a1 (fun M2 => ∃ n : Nat, tl_X3_kin_7 Q n M2 a2 0)
theorem tk_X3_kin {l : Launch} {D : va_G} {g : Nat → Nat} {cI cJ : ClassId} {sz : Nat} {M : MS} {a1 : Int32} {a2 : Int32} {Q : Int32 → MS → Prop} (h : tw_X3_kin M a1 a2 Q) : tm_Met l yX3_kin cX3_kin 5 (some .boolean) rmX3_kin [.int a1, .int a2] D g cI cJ sz M (va_Qi Q (tm_B D g cI cJ sz) (tm_A g sz)) := by
  refine tm_entry (by decide) (Nat.le_of_ble_eq_true rfl) (fun p e s m args below meth c hsz C hK => ?_)
  subst hsz
  unfold tw_X3_kin at h
  show gx_W p l e (headSpec (ws_ yX3_kin cX3_kin 5 (some .boolean)) rmX3_kin).room s m args below meth c 5 (tm_I D g cI cJ s M) 0 0 (MQ below (va_Qi Q (tm_B D g cI cJ s.heap.size) (tm_A g s.heap.size)) args s 0 0 (tm_A g s.heap.size)) 0 [(0, .ref (g 0)), (1, .int a1), (2, .int a2)] []
  refine gx_aload_n C dX3_kin_0 rfl 0 rfl ?_
  refine gx_iload_n C dX3_kin_1 rfl 1 rfl ?_
  refine tm_callv (rest := []) C hK (fun sz => tk_X3_marksUp h) (cwV 1 C.t (lw_V q2786 q2788 qs101 q130 q2789) rfl rfl rfl ⟨rfl, dmX3_marksUp⟩ ⟨Nat.le_of_ble_eq_true rfl, Nat.le_of_ble_eq_true rfl⟩) rfl rfl (Nat.le_of_ble_eq_true rfl) dX3_kin_2 (fun M2 h => ?_)
  refine gx_iconst (v := 0) C dX3_kin_5 (by decide) ?_
  refine gx_istore_n (lv' := [(3, .int 0), (0, .ref (g 0)), (1, .int a1), (2, .int a2)]) C dX3_kin_6 rfl (by decide) rfl ?_
  refine gx_sub [1, 3, 0] rfl ?_
  obtain ⟨n, h⟩ := h
  exact te_X3_kin_7 C hK n M2 a2 0 h
/-! areKin(II)Z -/
abbrev rmX3_areKin : Room := { frames := 6, cells := 0, slots := 0, locals := 139 }
theorem dmX3_areKin : yX3_areKin.cls ≠ "java/lang/invoke/MethodHandle" ∧ yX3_areKin.cls ≠ "java/lang/invoke/VarHandle" ∧ (parseMethodDescriptor yX3_areKin.desc).map (fun d => d.parameters.length) = some 2 := by decide +kernel
def tj_X3_areKin_55 (M : MS) (s0 : Int32) (Q : Int32 → MS → Prop) : Prop :=
  (narrow .boolean (.int s0) = .int s0 ∧ Q s0 M)
theorem tb_X3_areKin_55 {l : Launch} {p : Program} {e : Env} {s : State} {m : MethodId} {args : Array Value} {below : List Frame} {meth : Method} {c : Code} {D : va_G} {g : Nat → Nat} {cI cJ : ClassId} (C : gx_C p s m args meth c cX3_areKin 5 (some .boolean) RX3) (hK : va_K D gcl [(cI, .int), (cJ, .long)] s) {M : MS} {s0 : Int32} {Q : Int32 → MS → Prop} (h : tj_X3_areKin_55 M s0 Q)  : gx_W p l e (headSpec (ws_ yX3_areKin cX3_areKin 5 (some .boolean)) rmX3_areKin).room s m args below meth c 5 (tm_I D g cI cJ s M) 0 0 (MQ below (va_Qi Q (tm_B D g cI cJ s.heap.size) (tm_A g s.heap.size)) args s 0 0 (tm_A g s.heap.size)) 55 [] [.int s0] := by
  unfold tj_X3_areKin_55 at h
  obtain ⟨g55, h⟩ := h
  exact tm_zret C hK g55 h dX3_areKin_55
def tj_X3_areKin_54 (M : MS) (Q : Int32 → MS → Prop) : Prop :=
  tj_X3_areKin_55 M 0 Q
theorem tb_X3_areKin_54 {l : Launch} {p : Program} {e : Env} {s : State} {m : MethodId} {args : Array Value} {below : List Frame} {meth : Method} {c : Code} {D : va_G} {g : Nat → Nat} {cI cJ : ClassId} (C : gx_C p s m args meth c cX3_areKin 5 (some .boolean) RX3) (hK : va_K D gcl [(cI, .int), (cJ, .long)] s) {M : MS} {Q : Int32 → MS → Prop} (h : tj_X3_areKin_54 M Q)  : gx_W p l e (headSpec (ws_ yX3_areKin cX3_areKin 5 (some .boolean)) rmX3_areKin).room s m args below meth c 5 (tm_I D g cI cJ s M) 0 0 (MQ below (va_Qi Q (tm_B D g cI cJ s.heap.size) (tm_A g s.heap.size)) args s 0 0 (tm_A g s.heap.size)) 54 [] [] := by
  unfold tj_X3_areKin_54 at h
  refine gx_iconst (v := 0) C dX3_areKin_54 (by decide) ?_
  exact tb_X3_areKin_55 C hK h
def tw_X3_areKin (M : MS) (a1 : Int32) (a2 : Int32) (Q : Int32 → MS → Prop) : Prop :=
  tw_X3_node M a1 (fun r2 M2 => tw_X3_node M2 a2 (fun r8 M8 => (∀ M30 : MS, M30 = ms_s M8 0 (if r2 = (-1) then 1 else (if r8 = (-1) then 1 else 0)) → (((M30.1 0) = 0 → tw_X3_kin M30 r2 r8 (fun r44 M44 => ((r44 = 0 → tj_X3_areKin_54 M44 Q) ∧ (¬ (r44 = 0) → tj_X3_areKin_55 M44 1 Q)))) ∧ (¬ (M30.1 0) = 0 → tj_X3_areKin_54 M30 Q)))))
theorem tk_X3_areKin {l : Launch} {D : va_G} {g : Nat → Nat} {cI cJ : ClassId} {sz : Nat} {M : MS} {a1 : Int32} {a2 : Int32} {Q : Int32 → MS → Prop} (h : tw_X3_areKin M a1 a2 Q) : tm_Met l yX3_areKin cX3_areKin 5 (some .boolean) rmX3_areKin [.int a1, .int a2] D g cI cJ sz M (va_Qi Q (tm_B D g cI cJ sz) (tm_A g sz)) := by
  refine tm_entry (by decide) (Nat.le_of_ble_eq_true rfl) (fun p e s m args below meth c hsz C hK => ?_)
  subst hsz
  unfold tw_X3_areKin at h
  show gx_W p l e (headSpec (ws_ yX3_areKin cX3_areKin 5 (some .boolean)) rmX3_areKin).room s m args below meth c 5 (tm_I D g cI cJ s M) 0 0 (MQ below (va_Qi Q (tm_B D g cI cJ s.heap.size) (tm_A g s.heap.size)) args s 0 0 (tm_A g s.heap.size)) 0 [(0, .ref (g 0)), (1, .int a1), (2, .int a2)] []
  refine gx_aload_n C dX3_areKin_0 rfl 0 rfl ?_
  refine gx_iload_n C dX3_areKin_1 rfl 1 rfl ?_
  refine tm_calli (rest := []) C hK (fun sz => tk_X3_node h) (cwV 1 C.t (lw_V q2698 q2700 qs89 q130 q2701) rfl rfl rfl ⟨rfl, dmX3_node⟩ ⟨Nat.le_of_ble_eq_true rfl, Nat.le_of_ble_eq_true rfl⟩) rfl rfl (Nat.le_of_ble_eq_true rfl) dX3_areKin_2 (fun r2 M2 h => ?_)
  refine gx_istore_n (lv' := [(3, .int r2), (0, .ref (g 0)), (1, .int a1), (2, .int a2)]) C dX3_areKin_5 rfl (by decide) rfl ?_
  refine gx_aload_n C dX3_areKin_6 rfl 1 rfl ?_
  refine gx_iload_n C dX3_areKin_7 rfl 3 rfl ?_
  refine tm_calli (rest := []) C hK (fun sz => tk_X3_node h) (cwV 1 C.t (lw_V q2698 q2700 qs89 q130 q2701) rfl rfl rfl ⟨rfl, dmX3_node⟩ ⟨Nat.le_of_ble_eq_true rfl, Nat.le_of_ble_eq_true rfl⟩) rfl rfl (Nat.le_of_ble_eq_true rfl) dX3_areKin_8 (fun r8 M8 h => ?_)
  refine gx_istore (lv' := [(4, .int r8), (3, .int r2), (0, .ref (g 0)), (1, .int a1), (2, .int a2)]) C dX3_areKin_11 (by decide) rfl ?_
  refine gx_aload_n C dX3_areKin_13 rfl 2 rfl ?_
  refine gx_iload_n C dX3_areKin_14 rfl 1 rfl ?_
  refine gx_iconst (v := (-1)) C dX3_areKin_15 (by decide) ?_
  refine gx_phii (t := (if r2 = (-1) then 1 else (if r8 = (-1) then 1 else 0))) (pc2 := 30) (lv2 := [(4, .int r8), (3, .int r2), (0, .ref (g 0)), (1, .int a1), (2, .int a2)]) (rest2 := [.ref (g 0)]) (fun key => ?_) ?_
  · refine gx_icmp_eq (tgt := 25) C dX3_areKin_16 (by decide) (fun z1 => ?_) (fun z1 => ?_)
    · refine gx_iconst (v := 1) C dX3_areKin_25 (by decide) ?_
      refine gx_goto (tgt := 30) C dX3_areKin_26 (by decide) ?_
      exact gx_casti (if_pos z1) key
    · refine gx_iload C dX3_areKin_19 0 rfl ?_
      refine gx_iconst (v := (-1)) C dX3_areKin_21 (by decide) ?_
      refine gx_icmp_ne (tgt := 29) C dX3_areKin_22 (by decide) (fun z2 => ?_) (fun z2 => ?_)
      · refine gx_iconst (v := 0) C dX3_areKin_29 (by decide) ?_
        exact gx_casti ((if_neg z1).trans (if_neg z2)) key
      · refine gx_iconst (v := 1) C dX3_areKin_25 (by decide) ?_
        refine gx_goto (tgt := 30) C dX3_areKin_26 (by decide) ?_
        exact gx_casti ((if_neg z1).trans (if_pos z2)) key
  refine tm_put0 C hK q2300 dX3_areKin_30 (fun M30 e_M30 => ?_)
  replace h := h M30 e_M30
  refine gx_aload_n C dX3_areKin_33 rfl 2 rfl ?_
  refine tm_get C hK 0 (by decide) q2300 rfl rfl dX3_areKin_34 ?_
  refine gx_if_ne (tgt := 54) C dX3_areKin_37 (by decide) (fun z => ?_) (fun z => ?_)
  · replace h := h.2 z
    refine gx_sub [] rfl ?_
    exact tb_X3_areKin_54 C hK h
  · replace h := h.1 z
    refine gx_aload_n C dX3_areKin_40 rfl 2 rfl ?_
    refine gx_iload_n C dX3_areKin_41 rfl 1 rfl ?_
    refine gx_iload C dX3_areKin_42 0 rfl ?_
    refine tm_calli (rest := []) C hK (fun sz => tk_X3_kin h) (cwV 2 C.t (lw_V q2782 q2784 qs100 q130 q2785) rfl rfl rfl ⟨rfl, dmX3_kin⟩ ⟨Nat.le_of_ble_eq_true rfl, Nat.le_of_ble_eq_true rfl⟩) rfl rfl (Nat.le_of_ble_eq_true rfl) dX3_areKin_44 (fun r44 M44 h => ?_)
    refine gx_if_eq (tgt := 54) C dX3_areKin_47 (by decide) (fun z => ?_) (fun z => ?_)
    · replace h := h.1 z
      refine gx_sub [] rfl ?_
      exact tb_X3_areKin_54 C hK h
    · replace h := h.2 z
      refine gx_iconst (v := 1) C dX3_areKin_50 (by decide) ?_
      refine gx_goto (tgt := 55) C dX3_areKin_51 (by decide) ?_
      refine gx_sub [] rfl ?_
      exact tb_X3_areKin_55 C hK h
/-! pairsOfKin()I -/
abbrev rmX3_pairsOfKin : Room := { frames := 6, cells := 0, slots := 0, locals := 139 }
theorem dmX3_pairsOfKin : yX3_pairsOfKin.cls ≠ "java/lang/invoke/MethodHandle" ∧ yX3_pairsOfKin.cls ≠ "java/lang/invoke/VarHandle" ∧ (parseMethodDescriptor yX3_pairsOfKin.desc).map (fun d => d.parameters.length) = some 0 := by decide +kernel
def tj_X3_pairsOfKin_48 (M : MS) (a2 : Int32) (s0 : Int32) (s1 : Int32) (k4 : MS → Int32 → Int32 → Prop) (Q : Int32 → MS → Prop) : Prop :=
  k4 M (s0 + s1) (a2 + 1)
theorem tb_X3_pairsOfKin_48 {l : Launch} {p : Program} {e : Env} {s : State} {m : MethodId} {args : Array Value} {below : List Frame} {meth : Method} {c : Code} {D : va_G} {g : Nat → Nat} {cI cJ : ClassId} (C : gx_C p s m args meth c cX3_pairsOfKin 3 (some .int) RX3) (hK : va_K D gcl [(cI, .int), (cJ, .long)] s) {M : MS} {a2 : Int32} {s0 : Int32} {s1 : Int32} {k4 : MS → Int32 → Int32 → Prop} {Q : Int32 → MS → Prop} (h : tj_X3_pairsOfKin_48 M a2 s0 s1 k4 Q) (hk4 : ∀ (M : MS) (a1 : Int32) (a2 : Int32), k4 M a1 a2 → gx_W p l e (headSpec (ws_ yX3_pairsOfKin cX3_pairsOfKin 3 (some .int)) rmX3_pairsOfKin).room s m args below meth c 3 (tm_I D g cI cJ s M) 0 0 (MQ below (va_Qi Q (tm_B D g cI cJ s.heap.size) (tm_A g s.heap.size)) args s 0 0 (tm_A g s.heap.size)) 4 [(0, .ref (g 0)), (1, .int a1), (2, .int a2)] []) : gx_W p l e (headSpec (ws_ yX3_pairsOfKin cX3_pairsOfKin 3 (some .int)) rmX3_pairsOfKin).room s m args below meth c 3 (tm_I D g cI cJ s M) 0 0 (MQ below (va_Qi Q (tm_B D g cI cJ s.heap.size) (tm_A g s.heap.size)) args s 0 0 (tm_A g s.heap.size)) 48 [(0, .ref (g 0)), (2, .int a2)] [.int s1, .int s0] := by
  unfold tj_X3_pairsOfKin_48 at h
  refine gx_iadd C dX3_pairsOfKin_48 ?_
  refine gx_istore_n (lv' := [(1, .int (s0 + s1)), (0, .ref (g 0)), (2, .int a2)]) C dX3_pairsOfKin_49 rfl (by decide) rfl ?_
  refine gx_iinc (v := a2 + 1) (k := 2) (lv' := [(2, .int (a2 + 1)), (1, .int (s0 + s1)), (0, .ref (g 0))]) C dX3_pairsOfKin_50 rfl rfl (by decide) rfl ?_
  refine gx_goto (tgt := 4) C dX3_pairsOfKin_53 (by decide) ?_
  refine gx_sub [2, 1, 0] rfl ?_
  exact hk4 M (s0 + s1) (a2 + 1) h
def tj_X3_pairsOfKin_47 (M : MS) (a2 : Int32) (s0 : Int32) (k4 : MS → Int32 → Int32 → Prop) (Q : Int32 → MS → Prop) : Prop :=
  tj_X3_pairsOfKin_48 M a2 s0 0 k4 Q
theorem tb_X3_pairsOfKin_47 {l : Launch} {p : Program} {e : Env} {s : State} {m : MethodId} {args : Array Value} {below : List Frame} {meth : Method} {c : Code} {D : va_G} {g : Nat → Nat} {cI cJ : ClassId} (C : gx_C p s m args meth c cX3_pairsOfKin 3 (some .int) RX3) (hK : va_K D gcl [(cI, .int), (cJ, .long)] s) {M : MS} {a2 : Int32} {s0 : Int32} {k4 : MS → Int32 → Int32 → Prop} {Q : Int32 → MS → Prop} (h : tj_X3_pairsOfKin_47 M a2 s0 k4 Q) (hk4 : ∀ (M : MS) (a1 : Int32) (a2 : Int32), k4 M a1 a2 → gx_W p l e (headSpec (ws_ yX3_pairsOfKin cX3_pairsOfKin 3 (some .int)) rmX3_pairsOfKin).room s m args below meth c 3 (tm_I D g cI cJ s M) 0 0 (MQ below (va_Qi Q (tm_B D g cI cJ s.heap.size) (tm_A g s.heap.size)) args s 0 0 (tm_A g s.heap.size)) 4 [(0, .ref (g 0)), (1, .int a1), (2, .int a2)] []) : gx_W p l e (headSpec (ws_ yX3_pairsOfKin cX3_pairsOfKin 3 (some .int)) rmX3_pairsOfKin).room s m args below meth c 3 (tm_I D g cI cJ s M) 0 0 (MQ below (va_Qi Q (tm_B D g cI cJ s.heap.size) (tm_A g s.heap.size)) args s 0 0 (tm_A g s.heap.size)) 47 [(0, .ref (g 0)), (2, .int a2)] [.int s0] := by
  unfold tj_X3_pairsOfKin_47 at h
  refine gx_iconst (v := 0) C dX3_pairsOfKin_47 (by decide) ?_
  exact tb_X3_pairsOfKin_48 C hK h hk4
def tj_X3_pairsOfKin_4 (M : MS) (a1 : Int32) (a2 : Int32) (k4 : MS → Int32 → Int32 → Prop) (Q : Int32 → MS → Prop) : Prop :=
  (vp_in 2 754 ∧ (((ms_r M 0 2) ≤ a2 → Q a1 M) ∧ (¬ (ms_r M 0 2) ≤ a2 → tw_X3_many M a2 (fun r17 M17 => ((r17 = 2 → tw_X3_owlIn M17 a2 0 (fun r28 M28 => tw_X3_owlIn M28 a2 1 (fun r34 M34 => tw_X3_kin M34 r28 r34 (fun r37 M37 => ((r37 = 0 → tj_X3_pairsOfKin_47 M37 a2 a1 k4 Q) ∧ (¬ (r37 = 0) → tj_X3_pairsOfKin_48 M37 a2 a1 1 k4 Q)))))) ∧ (¬ (r17 = 2) → tj_X3_pairsOfKin_47 M17 a2 a1 k4 Q))))))
theorem tb_X3_pairsOfKin_4 {l : Launch} {p : Program} {e : Env} {s : State} {m : MethodId} {args : Array Value} {below : List Frame} {meth : Method} {c : Code} {D : va_G} {g : Nat → Nat} {cI cJ : ClassId} (C : gx_C p s m args meth c cX3_pairsOfKin 3 (some .int) RX3) (hK : va_K D gcl [(cI, .int), (cJ, .long)] s) {M : MS} {a1 : Int32} {a2 : Int32} {k4 : MS → Int32 → Int32 → Prop} {Q : Int32 → MS → Prop} (h : tj_X3_pairsOfKin_4 M a1 a2 k4 Q) (hk4 : ∀ (M : MS) (a1 : Int32) (a2 : Int32), k4 M a1 a2 → gx_W p l e (headSpec (ws_ yX3_pairsOfKin cX3_pairsOfKin 3 (some .int)) rmX3_pairsOfKin).room s m args below meth c 3 (tm_I D g cI cJ s M) 0 0 (MQ below (va_Qi Q (tm_B D g cI cJ s.heap.size) (tm_A g s.heap.size)) args s 0 0 (tm_A g s.heap.size)) 4 [(0, .ref (g 0)), (1, .int a1), (2, .int a2)] []) : gx_W p l e (headSpec (ws_ yX3_pairsOfKin cX3_pairsOfKin 3 (some .int)) rmX3_pairsOfKin).room s m args below meth c 3 (tm_I D g cI cJ s M) 0 0 (MQ below (va_Qi Q (tm_B D g cI cJ s.heap.size) (tm_A g s.heap.size)) args s 0 0 (tm_A g s.heap.size)) 4 [(0, .ref (g 0)), (1, .int a1), (2, .int a2)] [] := by
  unfold tj_X3_pairsOfKin_4 at h
  refine gx_iload_n C dX3_pairsOfKin_4 rfl 2 rfl ?_
  refine gx_aload_n C dX3_pairsOfKin_5 rfl 0 rfl ?_
  refine tm_get C hK 1 (by decide) q2301 rfl rfl dX3_pairsOfKin_6 ?_
  refine gx_iconst (v := 2) C dX3_pairsOfKin_9 (by decide) ?_
  obtain ⟨g10, h⟩ := h
  refine tm_ald0 C hK g10 dX3_pairsOfKin_10 ?_
  refine gx_icmp_ge (tgt := 56) C dX3_pairsOfKin_11 (by decide) (fun z => ?_) (fun z => ?_)
  · replace h := h.1 z
    refine gx_iload_n C dX3_pairsOfKin_56 rfl 1 rfl ?_
    exact tm_iret C hK h dX3_pairsOfKin_57
  · replace h := h.2 z
    refine gx_iload_n C dX3_pairsOfKin_14 rfl 1 rfl ?_
    refine gx_aload_n C dX3_pairsOfKin_15 rfl 0 rfl ?_
    refine gx_iload_n C dX3_pairsOfKin_16 rfl 2 rfl ?_
    refine tm_calli (rest := [.int a1]) C hK (fun sz => tk_X3_many h) (cwV 1 C.t (lw_V q2427 q2429 qs55 q130 q2430) rfl rfl rfl ⟨rfl, dmX3_many⟩ ⟨Nat.le_of_ble_eq_true rfl, Nat.le_of_ble_eq_true rfl⟩) rfl rfl (Nat.le_of_ble_eq_true rfl) dX3_pairsOfKin_17 (fun r17 M17 h => ?_)
    refine gx_iconst (v := 2) C dX3_pairsOfKin_20 (by decide) ?_
    refine gx_icmp_ne (tgt := 47) C dX3_pairsOfKin_21 (by decide) (fun z => ?_) (fun z => ?_)
    · replace h := h.2 z
      refine gx_sub [0, 2] rfl ?_
      exact tb_X3_pairsOfKin_47 C hK h hk4
    · replace h := h.1 z
      refine gx_aload_n C dX3_pairsOfKin_24 rfl 0 rfl ?_
      refine gx_aload_n C dX3_pairsOfKin_25 rfl 0 rfl ?_
      refine gx_iload_n C dX3_pairsOfKin_26 rfl 2 rfl ?_
      refine gx_iconst (v := 0) C dX3_pairsOfKin_27 (by decide) ?_
      refine tm_calli (rest := [.ref (g 0), .int a1]) C hK (fun sz => tk_X3_owlIn h) (cwV 2 C.t (lw_V q2431 q2433 qs56 q130 q2434) rfl rfl rfl ⟨rfl, dmX3_owlIn⟩ ⟨Nat.le_of_ble_eq_true rfl, Nat.le_of_ble_eq_true rfl⟩) rfl rfl (Nat.le_of_ble_eq_true rfl) dX3_pairsOfKin_28 (fun r28 M28 h => ?_)
      refine gx_aload_n C dX3_pairsOfKin_31 rfl 0 rfl ?_
      refine gx_iload_n C dX3_pairsOfKin_32 rfl 2 rfl ?_
      refine gx_iconst (v := 1) C dX3_pairsOfKin_33 (by decide) ?_
      refine tm_calli (rest := [.int r28, .ref (g 0), .int a1]) C hK (fun sz => tk_X3_owlIn h) (cwV 2 C.t (lw_V q2431 q2433 qs56 q130 q2434) rfl rfl rfl ⟨rfl, dmX3_owlIn⟩ ⟨Nat.le_of_ble_eq_true rfl, Nat.le_of_ble_eq_true rfl⟩) rfl rfl (Nat.le_of_ble_eq_true rfl) dX3_pairsOfKin_34 (fun r34 M34 h => ?_)
      refine tm_calli (rest := [.int a1]) C hK (fun sz => tk_X3_kin h) (cwV 2 C.t (lw_V q2782 q2784 qs100 q130 q2785) rfl rfl rfl ⟨rfl, dmX3_kin⟩ ⟨Nat.le_of_ble_eq_true rfl, Nat.le_of_ble_eq_true rfl⟩) rfl rfl (Nat.le_of_ble_eq_true rfl) dX3_pairsOfKin_37 (fun r37 M37 h => ?_)
      refine gx_if_eq (tgt := 47) C dX3_pairsOfKin_40 (by decide) (fun z => ?_) (fun z => ?_)
      · replace h := h.1 z
        refine gx_sub [0, 2] rfl ?_
        exact tb_X3_pairsOfKin_47 C hK h hk4
      · replace h := h.2 z
        refine gx_iconst (v := 1) C dX3_pairsOfKin_43 (by decide) ?_
        refine gx_goto (tgt := 48) C dX3_pairsOfKin_44 (by decide) ?_
        refine gx_sub [0, 2] rfl ?_
        exact tb_X3_pairsOfKin_48 C hK h hk4
def tl_X3_pairsOfKin_4 (Q : Int32 → MS → Prop) : Nat → MS → Int32 → Int32 → Prop
  | 0, _, _, _ => False
  | n + 1, M, a1, a2 => tj_X3_pairsOfKin_4 M a1 a2 (fun M a1 a2 => tl_X3_pairsOfKin_4 Q n M a1 a2) Q
theorem te_X3_pairsOfKin_4 {l : Launch} {p : Program} {e : Env} {s : State} {m : MethodId} {args : Array Value} {below : List Frame} {meth : Method} {c : Code} {D : va_G} {g : Nat → Nat} {cI cJ : ClassId} (C : gx_C p s m args meth c cX3_pairsOfKin 3 (some .int) RX3) (hK : va_K D gcl [(cI, .int), (cJ, .long)] s) {Q : Int32 → MS → Prop}  (n : Nat) : ∀ (M : MS) (a1 : Int32) (a2 : Int32), tl_X3_pairsOfKin_4 Q n M a1 a2 → gx_W p l e (headSpec (ws_ yX3_pairsOfKin cX3_pairsOfKin 3 (some .int)) rmX3_pairsOfKin).room s m args below meth c 3 (tm_I D g cI cJ s M) 0 0 (MQ below (va_Qi Q (tm_B D g cI cJ s.heap.size) (tm_A g s.heap.size)) args s 0 0 (tm_A g s.heap.size)) 4 [(0, .ref (g 0)), (1, .int a1), (2, .int a2)] [] := by
  induction n with
  | zero => intro M a1 a2 h; exact False.elim h
  | succ n ih => intro M a1 a2 h; exact tb_X3_pairsOfKin_4 C hK (show tj_X3_pairsOfKin_4 M a1 a2 (fun M a1 a2 => tl_X3_pairsOfKin_4 Q n M a1 a2) Q from h) (fun M a1 a2 h => ih M a1 a2 h)
def tw_X3_pairsOfKin (M : MS) (Q : Int32 → MS → Prop) : Prop :=
  ∃ n : Nat, tl_X3_pairsOfKin_4 Q n M 0 0
theorem tk_X3_pairsOfKin {l : Launch} {D : va_G} {g : Nat → Nat} {cI cJ : ClassId} {sz : Nat} {M : MS} {Q : Int32 → MS → Prop} (h : tw_X3_pairsOfKin M Q) : tm_Met l yX3_pairsOfKin cX3_pairsOfKin 3 (some .int) rmX3_pairsOfKin [] D g cI cJ sz M (va_Qi Q (tm_B D g cI cJ sz) (tm_A g sz)) := by
  refine tm_entry (by decide) (Nat.le_of_ble_eq_true rfl) (fun p e s m args below meth c hsz C hK => ?_)
  subst hsz
  unfold tw_X3_pairsOfKin at h
  show gx_W p l e (headSpec (ws_ yX3_pairsOfKin cX3_pairsOfKin 3 (some .int)) rmX3_pairsOfKin).room s m args below meth c 3 (tm_I D g cI cJ s M) 0 0 (MQ below (va_Qi Q (tm_B D g cI cJ s.heap.size) (tm_A g s.heap.size)) args s 0 0 (tm_A g s.heap.size)) 0 [(0, .ref (g 0))] []
  refine gx_iconst (v := 0) C dX3_pairsOfKin_0 (by decide) ?_
  refine gx_istore_n (lv' := [(1, .int 0), (0, .ref (g 0))]) C dX3_pairsOfKin_1 rfl (by decide) rfl ?_
  refine gx_iconst (v := 0) C dX3_pairsOfKin_2 (by decide) ?_
  refine gx_istore_n (lv' := [(2, .int 0), (1, .int 0), (0, .ref (g 0))]) C dX3_pairsOfKin_3 rfl (by decide) rfl ?_
  refine gx_sub [2, 1, 0] rfl ?_
  obtain ⟨n, h⟩ := h
  exact te_X3_pairsOfKin_4 C hK n M 0 0 h
/-! kinPairs()I -/
abbrev rmX3_kinPairs : Room := { frames := 7, cells := 0, slots := 0, locals := 161 }
theorem dmX3_kinPairs : yX3_kinPairs.cls ≠ "java/lang/invoke/MethodHandle" ∧ yX3_kinPairs.cls ≠ "java/lang/invoke/VarHandle" ∧ (parseMethodDescriptor yX3_kinPairs.desc).map (fun d => d.parameters.length) = some 0 := by decide +kernel
def tw_X3_kinPairs (M : MS) (Q : Int32 → MS → Prop) : Prop :=
  tw_X3_pairsOfKin M (fun r2 M2 => tw_X3_tells M2 r2 (fun r5 M5 => Q r5 M5))
theorem tk_X3_kinPairs {l : Launch} {D : va_G} {g : Nat → Nat} {cI cJ : ClassId} {sz : Nat} {M : MS} {Q : Int32 → MS → Prop} (h : tw_X3_kinPairs M Q) : tm_Met l yX3_kinPairs cX3_kinPairs 1 (some .int) rmX3_kinPairs [] D g cI cJ sz M (va_Qi Q (tm_B D g cI cJ sz) (tm_A g sz)) := by
  refine tm_entry (by decide) (Nat.le_of_ble_eq_true rfl) (fun p e s m args below meth c hsz C hK => ?_)
  subst hsz
  unfold tw_X3_kinPairs at h
  show gx_W p l e (headSpec (ws_ yX3_kinPairs cX3_kinPairs 1 (some .int)) rmX3_kinPairs).room s m args below meth c 1 (tm_I D g cI cJ s M) 0 0 (MQ below (va_Qi Q (tm_B D g cI cJ s.heap.size) (tm_A g s.heap.size)) args s 0 0 (tm_A g s.heap.size)) 0 [(0, .ref (g 0))] []
  refine gx_aload_n C dX3_kinPairs_0 rfl 0 rfl ?_
  refine gx_aload_n C dX3_kinPairs_1 rfl 0 rfl ?_
  refine tm_calli (rest := [.ref (g 0)]) C hK (fun sz => tk_X3_pairsOfKin h) (cwV 0 C.t (lw_V q2794 q2796 qs102 q130 q2797) rfl rfl rfl ⟨rfl, dmX3_pairsOfKin⟩ ⟨Nat.le_of_ble_eq_true rfl, Nat.le_of_ble_eq_true rfl⟩) rfl rfl (Nat.le_of_ble_eq_true rfl) dX3_kinPairs_2 (fun r2 M2 h => ?_)
  refine tm_calli (rest := []) C hK (fun sz => tk_X3_tells h) (cwV 1 C.t (lw_V q2570 q2572 qs82 q130 q2573) rfl rfl rfl ⟨rfl, dmX3_tells⟩ ⟨Nat.le_of_ble_eq_true rfl, Nat.le_of_ble_eq_true rfl⟩) rfl rfl (Nat.le_of_ble_eq_true rfl) dX3_kinPairs_5 (fun r5 M5 h => ?_)
  exact tm_iret C hK h dX3_kinPairs_8
/-! born()I -/
abbrev rmX3_born : Room := { frames := 1, cells := 0, slots := 0, locals := 21 }
theorem dmX3_born : yX3_born.cls ≠ "java/lang/invoke/MethodHandle" ∧ yX3_born.cls ≠ "java/lang/invoke/VarHandle" ∧ (parseMethodDescriptor yX3_born.desc).map (fun d => d.parameters.length) = some 0 := by decide +kernel
def tw_X3_born (M : MS) (Q : Int32 → MS → Prop) : Prop :=
  (vp_in 5 754 ∧ tw_X3_tells M (ms_r M 0 5) (fun r7 M7 => Q r7 M7))
theorem tk_X3_born {l : Launch} {D : va_G} {g : Nat → Nat} {cI cJ : ClassId} {sz : Nat} {M : MS} {Q : Int32 → MS → Prop} (h : tw_X3_born M Q) : tm_Met l yX3_born cX3_born 1 (some .int) rmX3_born [] D g cI cJ sz M (va_Qi Q (tm_B D g cI cJ sz) (tm_A g sz)) := by
  refine tm_entry (by decide) (Nat.le_of_ble_eq_true rfl) (fun p e s m args below meth c hsz C hK => ?_)
  subst hsz
  unfold tw_X3_born at h
  show gx_W p l e (headSpec (ws_ yX3_born cX3_born 1 (some .int)) rmX3_born).room s m args below meth c 1 (tm_I D g cI cJ s M) 0 0 (MQ below (va_Qi Q (tm_B D g cI cJ s.heap.size) (tm_A g s.heap.size)) args s 0 0 (tm_A g s.heap.size)) 0 [(0, .ref (g 0))] []
  refine gx_aload_n C dX3_born_0 rfl 0 rfl ?_
  refine gx_aload_n C dX3_born_1 rfl 0 rfl ?_
  refine tm_get C hK 1 (by decide) q2301 rfl rfl dX3_born_2 ?_
  refine gx_iconst (v := 5) C dX3_born_5 (by decide) ?_
  obtain ⟨g6, h⟩ := h
  refine tm_ald0 C hK g6 dX3_born_6 ?_
  refine tm_calli (rest := []) C hK (fun sz => tk_X3_tells h) (cwV 1 C.t (lw_V q2570 q2572 qs82 q130 q2573) rfl rfl rfl ⟨rfl, dmX3_tells⟩ ⟨Nat.le_of_ble_eq_true rfl, Nat.le_of_ble_eq_true rfl⟩) rfl rfl (Nat.le_of_ble_eq_true rfl) dX3_born_7 (fun r7 M7 h => ?_)
  exact tm_iret C hK h dX3_born_10
/-! died(I)I -/
abbrev rmX3_died : Room := { frames := 1, cells := 0, slots := 0, locals := 22 }
theorem dmX3_died : yX3_died.cls ≠ "java/lang/invoke/MethodHandle" ∧ yX3_died.cls ≠ "java/lang/invoke/VarHandle" ∧ (parseMethodDescriptor yX3_died.desc).map (fun d => d.parameters.length) = some 1 := by decide +kernel
def tj_X3_died_38 (M : MS) (s0 : Int32) (Q : Int32 → MS → Prop) : Prop :=
  Q s0 M
theorem tb_X3_died_38 {l : Launch} {p : Program} {e : Env} {s : State} {m : MethodId} {args : Array Value} {below : List Frame} {meth : Method} {c : Code} {D : va_G} {g : Nat → Nat} {cI cJ : ClassId} (C : gx_C p s m args meth c cX3_died 2 (some .int) RX3) (hK : va_K D gcl [(cI, .int), (cJ, .long)] s) {M : MS} {s0 : Int32} {Q : Int32 → MS → Prop} (h : tj_X3_died_38 M s0 Q)  : gx_W p l e (headSpec (ws_ yX3_died cX3_died 2 (some .int)) rmX3_died).room s m args below meth c 2 (tm_I D g cI cJ s M) 0 0 (MQ below (va_Qi Q (tm_B D g cI cJ s.heap.size) (tm_A g s.heap.size)) args s 0 0 (tm_A g s.heap.size)) 38 [] [.int s0] := by
  unfold tj_X3_died_38 at h
  exact tm_iret C hK h dX3_died_38
def tw_X3_died (M : MS) (a1 : Int32) (Q : Int32 → MS → Prop) : Prop :=
  pw_X3_within a1 0 3 (fun r4 => (∀ M15 : MS, M15 = ms_s M 0 (if r4 = 0 then 1 else 0) → (((M15.1 0) ≤ 0 → (vp_in (10 + a1) 754 ∧ tj_X3_died_38 M15 (ms_r M15 0 (10 + a1)) Q)) ∧ (¬ (M15.1 0) ≤ 0 → tj_X3_died_38 M15 0 Q))))
theorem tk_X3_died {l : Launch} {D : va_G} {g : Nat → Nat} {cI cJ : ClassId} {sz : Nat} {M : MS} {a1 : Int32} {Q : Int32 → MS → Prop} (h : tw_X3_died M a1 Q) : tm_Met l yX3_died cX3_died 2 (some .int) rmX3_died [.int a1] D g cI cJ sz M (va_Qi Q (tm_B D g cI cJ sz) (tm_A g sz)) := by
  refine tm_entry (by decide) (Nat.le_of_ble_eq_true rfl) (fun p e s m args below meth c hsz C hK => ?_)
  subst hsz
  unfold tw_X3_died at h
  show gx_W p l e (headSpec (ws_ yX3_died cX3_died 2 (some .int)) rmX3_died).room s m args below meth c 2 (tm_I D g cI cJ s M) 0 0 (MQ below (va_Qi Q (tm_B D g cI cJ s.heap.size) (tm_A g s.heap.size)) args s 0 0 (tm_A g s.heap.size)) 0 [(0, .ref (g 0)), (1, .int a1)] []
  refine gx_aload_n C dX3_died_0 rfl 0 rfl ?_
  refine gx_iload_n C dX3_died_1 rfl 1 rfl ?_
  refine gx_iconst (v := 0) C dX3_died_2 (by decide) ?_
  refine gx_iconst (v := 3) C dX3_died_3 (by decide) ?_
  refine gx_calls_i (rest := [.ref (g 0)]) C (pk_X3_within h) (va_cwS 3 C.t (lw_S q2360 q2361 q130 q2362) rfl rfl rfl dmX3_within ⟨Nat.le_of_ble_eq_true rfl, Nat.le_of_ble_eq_true rfl⟩) rfl rfl (Nat.le_of_ble_eq_true rfl) ⟨Nat.zero_le _, Nat.zero_le _⟩ dX3_died_4 (fun r4 h => ?_)
  refine gx_phii (t := (if r4 = 0 then 1 else 0)) (pc2 := 15) (lv2 := [(0, .ref (g 0)), (1, .int a1)]) (rest2 := [.ref (g 0)]) (fun key => ?_) ?_
  · refine gx_if_eq (tgt := 14) C dX3_died_7 (by decide) (fun z1 => ?_) (fun z1 => ?_)
    · refine gx_iconst (v := 1) C dX3_died_14 (by decide) ?_
      exact gx_casti (if_pos z1) key
    · refine gx_iconst (v := 0) C dX3_died_10 (by decide) ?_
      refine gx_goto (tgt := 15) C dX3_died_11 (by decide) ?_
      exact gx_casti (if_neg z1) key
  refine tm_put0 C hK q2300 dX3_died_15 (fun M15 e_M15 => ?_)
  replace h := h M15 e_M15
  refine gx_aload_n C dX3_died_18 rfl 0 rfl ?_
  refine tm_get C hK 0 (by decide) q2300 rfl rfl dX3_died_19 ?_
  refine gx_if_le (tgt := 29) C dX3_died_22 (by decide) (fun z => ?_) (fun z => ?_)
  · replace h := h.1 z
    refine gx_aload_n C dX3_died_29 rfl 0 rfl ?_
    refine tm_get C hK 1 (by decide) q2301 rfl rfl dX3_died_30 ?_
    refine gx_bipush (v := 10) C dX3_died_33 (by decide) ?_
    refine gx_iload_n C dX3_died_35 rfl 1 rfl ?_
    refine gx_iadd C dX3_died_36 ?_
    obtain ⟨g37, h⟩ := h
    refine tm_ald0 C hK g37 dX3_died_37 ?_
    refine gx_sub [] rfl ?_
    exact tb_X3_died_38 C hK h
  · replace h := h.2 z
    refine gx_iconst (v := 0) C dX3_died_25 (by decide) ?_
    refine gx_goto (tgt := 38) C dX3_died_26 (by decide) ?_
    refine gx_sub [] rfl ?_
    exact tb_X3_died_38 C hK h
/-! takenOut()I -/
abbrev rmX3_takenOut : Room := { frames := 1, cells := 0, slots := 0, locals := 21 }
theorem dmX3_takenOut : yX3_takenOut.cls ≠ "java/lang/invoke/MethodHandle" ∧ yX3_takenOut.cls ≠ "java/lang/invoke/VarHandle" ∧ (parseMethodDescriptor yX3_takenOut.desc).map (fun d => d.parameters.length) = some 0 := by decide +kernel
def tw_X3_takenOut (M : MS) (Q : Int32 → MS → Prop) : Prop :=
  (vp_in 6 754 ∧ tw_X3_tells M (ms_r M 0 6) (fun r8 M8 => Q r8 M8))
theorem tk_X3_takenOut {l : Launch} {D : va_G} {g : Nat → Nat} {cI cJ : ClassId} {sz : Nat} {M : MS} {Q : Int32 → MS → Prop} (h : tw_X3_takenOut M Q) : tm_Met l yX3_takenOut cX3_takenOut 1 (some .int) rmX3_takenOut [] D g cI cJ sz M (va_Qi Q (tm_B D g cI cJ sz) (tm_A g sz)) := by
  refine tm_entry (by decide) (Nat.le_of_ble_eq_true rfl) (fun p e s m args below meth c hsz C hK => ?_)
  subst hsz
  unfold tw_X3_takenOut at h
  show gx_W p l e (headSpec (ws_ yX3_takenOut cX3_takenOut 1 (some .int)) rmX3_takenOut).room s m args below meth c 1 (tm_I D g cI cJ s M) 0 0 (MQ below (va_Qi Q (tm_B D g cI cJ s.heap.size) (tm_A g s.heap.size)) args s 0 0 (tm_A g s.heap.size)) 0 [(0, .ref (g 0))] []
  refine gx_aload_n C dX3_takenOut_0 rfl 0 rfl ?_
  refine gx_aload_n C dX3_takenOut_1 rfl 0 rfl ?_
  refine tm_get C hK 1 (by decide) q2301 rfl rfl dX3_takenOut_2 ?_
  refine gx_bipush (v := 6) C dX3_takenOut_5 (by decide) ?_
  obtain ⟨g7, h⟩ := h
  refine tm_ald0 C hK g7 dX3_takenOut_7 ?_
  refine tm_calli (rest := []) C hK (fun sz => tk_X3_tells h) (cwV 1 C.t (lw_V q2570 q2572 qs82 q130 q2573) rfl rfl rfl ⟨rfl, dmX3_tells⟩ ⟨Nat.le_of_ble_eq_true rfl, Nat.le_of_ble_eq_true rfl⟩) rfl rfl (Nat.le_of_ble_eq_true rfl) dX3_takenOut_8 (fun r8 M8 h => ?_)
  exact tm_iret C hK h dX3_takenOut_11
/-! eaten()I -/
abbrev rmX3_eaten : Room := { frames := 1, cells := 0, slots := 0, locals := 21 }
theorem dmX3_eaten : yX3_eaten.cls ≠ "java/lang/invoke/MethodHandle" ∧ yX3_eaten.cls ≠ "java/lang/invoke/VarHandle" ∧ (parseMethodDescriptor yX3_eaten.desc).map (fun d => d.parameters.length) = some 0 := by decide +kernel
def tw_X3_eaten (M : MS) (Q : Int32 → MS → Prop) : Prop :=
  (vp_in 7 754 ∧ tw_X3_tells M (ms_r M 0 7) (fun r8 M8 => Q r8 M8))
theorem tk_X3_eaten {l : Launch} {D : va_G} {g : Nat → Nat} {cI cJ : ClassId} {sz : Nat} {M : MS} {Q : Int32 → MS → Prop} (h : tw_X3_eaten M Q) : tm_Met l yX3_eaten cX3_eaten 1 (some .int) rmX3_eaten [] D g cI cJ sz M (va_Qi Q (tm_B D g cI cJ sz) (tm_A g sz)) := by
  refine tm_entry (by decide) (Nat.le_of_ble_eq_true rfl) (fun p e s m args below meth c hsz C hK => ?_)
  subst hsz
  unfold tw_X3_eaten at h
  show gx_W p l e (headSpec (ws_ yX3_eaten cX3_eaten 1 (some .int)) rmX3_eaten).room s m args below meth c 1 (tm_I D g cI cJ s M) 0 0 (MQ below (va_Qi Q (tm_B D g cI cJ s.heap.size) (tm_A g s.heap.size)) args s 0 0 (tm_A g s.heap.size)) 0 [(0, .ref (g 0))] []
  refine gx_aload_n C dX3_eaten_0 rfl 0 rfl ?_
  refine gx_aload_n C dX3_eaten_1 rfl 0 rfl ?_
  refine tm_get C hK 1 (by decide) q2301 rfl rfl dX3_eaten_2 ?_
  refine gx_bipush (v := 7) C dX3_eaten_5 (by decide) ?_
  obtain ⟨g7, h⟩ := h
  refine tm_ald0 C hK g7 dX3_eaten_7 ?_
  refine tm_calli (rest := []) C hK (fun sz => tk_X3_tells h) (cwV 1 C.t (lw_V q2570 q2572 qs82 q130 q2573) rfl rfl rfl ⟨rfl, dmX3_tells⟩ ⟨Nat.le_of_ble_eq_true rfl, Nat.le_of_ble_eq_true rfl⟩) rfl rfl (Nat.le_of_ble_eq_true rfl) dX3_eaten_8 (fun r8 M8 h => ?_)
  exact tm_iret C hK h dX3_eaten_11
/-! mostOwls()I -/
abbrev rmX3_mostOwls : Room := { frames := 1, cells := 0, slots := 0, locals := 21 }
theorem dmX3_mostOwls : yX3_mostOwls.cls ≠ "java/lang/invoke/MethodHandle" ∧ yX3_mostOwls.cls ≠ "java/lang/invoke/VarHandle" ∧ (parseMethodDescriptor yX3_mostOwls.desc).map (fun d => d.parameters.length) = some 0 := by decide +kernel
def tw_X3_mostOwls (M : MS) (Q : Int32 → MS → Prop) : Prop :=
  (vp_in 8 754 ∧ tw_X3_tells M (ms_r M 0 8) (fun r8 M8 => Q r8 M8))
theorem tk_X3_mostOwls {l : Launch} {D : va_G} {g : Nat → Nat} {cI cJ : ClassId} {sz : Nat} {M : MS} {Q : Int32 → MS → Prop} (h : tw_X3_mostOwls M Q) : tm_Met l yX3_mostOwls cX3_mostOwls 1 (some .int) rmX3_mostOwls [] D g cI cJ sz M (va_Qi Q (tm_B D g cI cJ sz) (tm_A g sz)) := by
  refine tm_entry (by decide) (Nat.le_of_ble_eq_true rfl) (fun p e s m args below meth c hsz C hK => ?_)
  subst hsz
  unfold tw_X3_mostOwls at h
  show gx_W p l e (headSpec (ws_ yX3_mostOwls cX3_mostOwls 1 (some .int)) rmX3_mostOwls).room s m args below meth c 1 (tm_I D g cI cJ s M) 0 0 (MQ below (va_Qi Q (tm_B D g cI cJ s.heap.size) (tm_A g s.heap.size)) args s 0 0 (tm_A g s.heap.size)) 0 [(0, .ref (g 0))] []
  refine gx_aload_n C dX3_mostOwls_0 rfl 0 rfl ?_
  refine gx_aload_n C dX3_mostOwls_1 rfl 0 rfl ?_
  refine tm_get C hK 1 (by decide) q2301 rfl rfl dX3_mostOwls_2 ?_
  refine gx_bipush (v := 8) C dX3_mostOwls_5 (by decide) ?_
  obtain ⟨g7, h⟩ := h
  refine tm_ald0 C hK g7 dX3_mostOwls_7 ?_
  refine tm_calli (rest := []) C hK (fun sz => tk_X3_tells h) (cwV 1 C.t (lw_V q2570 q2572 qs82 q130 q2573) rfl rfl rfl ⟨rfl, dmX3_tells⟩ ⟨Nat.le_of_ble_eq_true rfl, Nat.le_of_ble_eq_true rfl⟩) rfl rfl (Nat.le_of_ble_eq_true rfl) dX3_mostOwls_8 (fun r8 M8 h => ?_)
  exact tm_iret C hK h dX3_mostOwls_11
/-! deaths()I -/
abbrev rmX3_deaths : Room := { frames := 1, cells := 0, slots := 0, locals := 21 }
theorem dmX3_deaths : yX3_deaths.cls ≠ "java/lang/invoke/MethodHandle" ∧ yX3_deaths.cls ≠ "java/lang/invoke/VarHandle" ∧ (parseMethodDescriptor yX3_deaths.desc).map (fun d => d.parameters.length) = some 0 := by decide +kernel
def tw_X3_deaths (M : MS) (Q : Int32 → MS → Prop) : Prop :=
  (vp_in 9 754 ∧ tw_X3_tells M (ms_r M 0 9) (fun r8 M8 => Q r8 M8))
theorem tk_X3_deaths {l : Launch} {D : va_G} {g : Nat → Nat} {cI cJ : ClassId} {sz : Nat} {M : MS} {Q : Int32 → MS → Prop} (h : tw_X3_deaths M Q) : tm_Met l yX3_deaths cX3_deaths 1 (some .int) rmX3_deaths [] D g cI cJ sz M (va_Qi Q (tm_B D g cI cJ sz) (tm_A g sz)) := by
  refine tm_entry (by decide) (Nat.le_of_ble_eq_true rfl) (fun p e s m args below meth c hsz C hK => ?_)
  subst hsz
  unfold tw_X3_deaths at h
  show gx_W p l e (headSpec (ws_ yX3_deaths cX3_deaths 1 (some .int)) rmX3_deaths).room s m args below meth c 1 (tm_I D g cI cJ s M) 0 0 (MQ below (va_Qi Q (tm_B D g cI cJ s.heap.size) (tm_A g s.heap.size)) args s 0 0 (tm_A g s.heap.size)) 0 [(0, .ref (g 0))] []
  refine gx_aload_n C dX3_deaths_0 rfl 0 rfl ?_
  refine gx_aload_n C dX3_deaths_1 rfl 0 rfl ?_
  refine tm_get C hK 1 (by decide) q2301 rfl rfl dX3_deaths_2 ?_
  refine gx_bipush (v := 9) C dX3_deaths_5 (by decide) ?_
  obtain ⟨g7, h⟩ := h
  refine tm_ald0 C hK g7 dX3_deaths_7 ?_
  refine tm_calli (rest := []) C hK (fun sz => tk_X3_tells h) (cwV 1 C.t (lw_V q2570 q2572 qs82 q130 q2573) rfl rfl rfl ⟨rfl, dmX3_tells⟩ ⟨Nat.le_of_ble_eq_true rfl, Nat.le_of_ble_eq_true rfl⟩) rfl rfl (Nat.le_of_ble_eq_true rfl) dX3_deaths_8 (fun r8 M8 h => ?_)
  exact tm_iret C hK h dX3_deaths_11
