set_option maxRecDepth 100000
set_option maxHeartbeats 4000000
/-! thrown()I -/
abbrev rmX3_thrown : Room := { frames := 0, cells := 0, slots := 0, locals := 0 }
theorem dmX3_thrown : yX3_thrown.cls ≠ "java/lang/invoke/MethodHandle" ∧ yX3_thrown.cls ≠ "java/lang/invoke/VarHandle" ∧ (parseMethodDescriptor yX3_thrown.desc).map (fun d => d.parameters.length) = some 0 := by decide +kernel
def tw_X3_thrown (M : MS) (Q : Int32 → MS → Prop) : Prop :=
  Q (M.1 0) M
theorem tk_X3_thrown {l : Launch} {D : va_G} {g : Nat → Nat} {cI cJ : ClassId} {sz : Nat} {M : MS} {Q : Int32 → MS → Prop} (h : tw_X3_thrown M Q) : tm_Met l yX3_thrown cX3_thrown 1 (some .int) rmX3_thrown [] D g cI cJ sz M (va_Qi Q (tm_B D g cI cJ sz) (tm_A g sz)) := by
  refine tm_entry (by decide) (Nat.le_of_ble_eq_true rfl) (fun p e s m args below meth c hsz C hK => ?_)
  subst hsz
  unfold tw_X3_thrown at h
  show gx_W p l e (headSpec (ws_ yX3_thrown cX3_thrown 1 (some .int)) rmX3_thrown).room s m args below meth c 1 (tm_I D g cI cJ s M) 0 0 (MQ below (va_Qi Q (tm_B D g cI cJ s.heap.size) (tm_A g s.heap.size)) args s 0 0 (tm_A g s.heap.size)) 0 [(0, .ref (g 0))] []
  refine gx_aload_n C dX3_thrown_0 rfl 0 rfl ?_
  refine tm_get C hK 0 (by decide) q2300 rfl rfl dX3_thrown_1 ?_
  exact tm_iret C hK h dX3_thrown_4
/-! within(III)Z -/
abbrev rmX3_within : Room := { frames := 0, cells := 0, slots := 0, locals := 0 }
theorem dmX3_within : yX3_within.cls ≠ "java/lang/invoke/MethodHandle" ∧ yX3_within.cls ≠ "java/lang/invoke/VarHandle" ∧ (parseMethodDescriptor yX3_within.desc).map (fun d => d.parameters.length) = some 3 := by decide +kernel
def pw_X3_within (a0 : Int32) (a1 : Int32) (a2 : Int32) (Q : Int32 → Prop) : Prop :=
  Q (if a0 < a1 then 0 else (if a2 < a0 then 0 else 1))
theorem pk_X3_within {l : Launch} {a0 : Int32} {a1 : Int32} {a2 : Int32} {Q : Int32 → Prop} (h : pw_X3_within a0 a1 a2 Q) : Met l yX3_within (ws_ yX3_within cX3_within 3 (some .boolean)) rmX3_within (va_Pc [.int a0, .int a1, .int a2] (fun _ => True)) (vp_Si Q) 0 0 (fun _ => False) := by
  refine ps_entry (by decide) (Nat.le_of_ble_eq_true rfl) (fun p e s m args below meth c C => ?_)
  unfold pw_X3_within at h
  show gx_W p l e (headSpec (ws_ yX3_within cX3_within 3 (some .boolean)) rmX3_within).room s m args below meth c 3 (ps_I s) 0 0 (MQ below (vp_Si Q) args s 0 0 (fun _ => False)) 0 [(0, .int a0), (1, .int a1), (2, .int a2)] []
  refine gx_iload_n C dX3_within_0 rfl 0 rfl ?_
  refine gx_iload_n C dX3_within_1 rfl 1 rfl ?_
  refine gx_phii (t := (if a0 < a1 then 0 else (if a2 < a0 then 0 else 1))) (pc2 := 15) (lv2 := [(0, .int a0), (1, .int a1), (2, .int a2)]) (rest2 := []) (fun key => ?_) ?_
  · refine gx_icmp_lt (tgt := 14) C dX3_within_2 (by decide) (fun z1 => ?_) (fun z1 => ?_)
    · refine gx_iconst (v := 0) C dX3_within_14 (by decide) ?_
      exact gx_casti (if_pos z1) key
    · refine gx_iload_n C dX3_within_5 rfl 0 rfl ?_
      refine gx_iload_n C dX3_within_6 rfl 2 rfl ?_
      refine gx_icmp_gt (tgt := 14) C dX3_within_7 (by decide) (fun z2 => ?_) (fun z2 => ?_)
      · refine gx_iconst (v := 0) C dX3_within_14 (by decide) ?_
        exact gx_casti ((if_neg z1).trans (if_pos z2)) key
      · refine gx_iconst (v := 1) C dX3_within_10 (by decide) ?_
        refine gx_goto (tgt := 15) C dX3_within_11 (by decide) ?_
        exact gx_casti ((if_neg z1).trans (if_neg z2)) key
  exact ps_zret C (by repeat' (first | rfl | split)) h dX3_within_15
/-! isSquare(I)Z -/
abbrev rmX3_isSquare : Room := { frames := 1, cells := 0, slots := 0, locals := 22 }
theorem dmX3_isSquare : yX3_isSquare.cls ≠ "java/lang/invoke/MethodHandle" ∧ yX3_isSquare.cls ≠ "java/lang/invoke/VarHandle" ∧ (parseMethodDescriptor yX3_isSquare.desc).map (fun d => d.parameters.length) = some 1 := by decide +kernel
def pw_X3_isSquare (a0 : Int32) (Q : Int32 → Prop) : Prop :=
  pw_X3_within a0 0 63 (fun r4 => (narrow .boolean (.int r4) = .int r4 ∧ Q r4))
theorem pk_X3_isSquare {l : Launch} {a0 : Int32} {Q : Int32 → Prop} (h : pw_X3_isSquare a0 Q) : Met l yX3_isSquare (ws_ yX3_isSquare cX3_isSquare 1 (some .boolean)) rmX3_isSquare (va_Pc [.int a0] (fun _ => True)) (vp_Si Q) 0 0 (fun _ => False) := by
  refine ps_entry (by decide) (Nat.le_of_ble_eq_true rfl) (fun p e s m args below meth c C => ?_)
  unfold pw_X3_isSquare at h
  show gx_W p l e (headSpec (ws_ yX3_isSquare cX3_isSquare 1 (some .boolean)) rmX3_isSquare).room s m args below meth c 1 (ps_I s) 0 0 (MQ below (vp_Si Q) args s 0 0 (fun _ => False)) 0 [(0, .int a0)] []
  refine gx_iload_n C dX3_isSquare_0 rfl 0 rfl ?_
  refine gx_iconst (v := 0) C dX3_isSquare_1 (by decide) ?_
  refine gx_bipush (v := 63) C dX3_isSquare_2 (by decide) ?_
  refine gx_calls_i (rest := []) C (pk_X3_within h) (va_cwS 3 C.t (lw_S q2360 q2361 q130 q2362) rfl rfl rfl dmX3_within ⟨Nat.le_of_ble_eq_true rfl, Nat.le_of_ble_eq_true rfl⟩) rfl rfl (Nat.le_of_ble_eq_true rfl) ⟨Nat.zero_le _, Nat.zero_le _⟩ dX3_isSquare_4 (fun r4 h => ?_)
  obtain ⟨g7, h⟩ := h
  exact ps_zret C g7 h dX3_isSquare_7
/-! boxAt(I)I -/
abbrev rmX3_boxAt : Room := { frames := 0, cells := 0, slots := 0, locals := 0 }
theorem dmX3_boxAt : yX3_boxAt.cls ≠ "java/lang/invoke/MethodHandle" ∧ yX3_boxAt.cls ≠ "java/lang/invoke/VarHandle" ∧ (parseMethodDescriptor yX3_boxAt.desc).map (fun d => d.parameters.length) = some 1 := by decide +kernel
def tj_X3_boxAt_4 (M : MS) (a1 : Int32) (a2 : Int32) (a3 : Int32) (k4 : MS → Int32 → Int32 → Int32 → Prop) (Q : Int32 → MS → Prop) : Prop :=
  (vp_in 2 754 ∧ (((ms_r M 0 2) ≤ a3 → Q a2 M) ∧ (¬ (ms_r M 0 2) ≤ a3 → (vp_in (144 + a3) 754 ∧ (∀ x33 : Int32, x33 = (if (ms_r M 0 (144 + a3)) = a1 then a3 else a2) → k4 M a1 x33 (a3 + 1))))))
theorem tb_X3_boxAt_4 {l : Launch} {p : Program} {e : Env} {s : State} {m : MethodId} {args : Array Value} {below : List Frame} {meth : Method} {c : Code} {D : va_G} {g : Nat → Nat} {cI cJ : ClassId} (C : gx_C p s m args meth c cX3_boxAt 4 (some .int) RX3) (hK : va_K D gcl [(cI, .int), (cJ, .long)] s) {M : MS} {a1 : Int32} {a2 : Int32} {a3 : Int32} {k4 : MS → Int32 → Int32 → Int32 → Prop} {Q : Int32 → MS → Prop} (h : tj_X3_boxAt_4 M a1 a2 a3 k4 Q) (hk4 : ∀ (M : MS) (a1 : Int32) (a2 : Int32) (a3 : Int32), k4 M a1 a2 a3 → gx_W p l e (headSpec (ws_ yX3_boxAt cX3_boxAt 4 (some .int)) rmX3_boxAt).room s m args below meth c 4 (tm_I D g cI cJ s M) 0 0 (MQ below (va_Qi Q (tm_B D g cI cJ s.heap.size) (tm_A g s.heap.size)) args s 0 0 (tm_A g s.heap.size)) 4 [(0, .ref (g 0)), (1, .int a1), (2, .int a2), (3, .int a3)] []) : gx_W p l e (headSpec (ws_ yX3_boxAt cX3_boxAt 4 (some .int)) rmX3_boxAt).room s m args below meth c 4 (tm_I D g cI cJ s M) 0 0 (MQ below (va_Qi Q (tm_B D g cI cJ s.heap.size) (tm_A g s.heap.size)) args s 0 0 (tm_A g s.heap.size)) 4 [(0, .ref (g 0)), (1, .int a1), (2, .int a2), (3, .int a3)] [] := by
  unfold tj_X3_boxAt_4 at h
  refine gx_iload_n C dX3_boxAt_4 rfl 3 rfl ?_
  refine gx_aload_n C dX3_boxAt_5 rfl 0 rfl ?_
  refine tm_get C hK 1 (by decide) q2301 rfl rfl dX3_boxAt_6 ?_
  refine gx_iconst (v := 2) C dX3_boxAt_9 (by decide) ?_
  obtain ⟨g10, h⟩ := h
  refine tm_ald0 C hK g10 dX3_boxAt_10 ?_
  refine gx_icmp_ge (tgt := 40) C dX3_boxAt_11 (by decide) (fun z => ?_) (fun z => ?_)
  · replace h := h.1 z
    refine gx_iload_n C dX3_boxAt_40 rfl 2 rfl ?_
    exact tm_iret C hK h dX3_boxAt_41
  · replace h := h.2 z
    refine gx_aload_n C dX3_boxAt_14 rfl 0 rfl ?_
    refine tm_get C hK 1 (by decide) q2301 rfl rfl dX3_boxAt_15 ?_
    refine gx_sipush (v := 144) C dX3_boxAt_18 (by decide) ?_
    refine gx_iload_n C dX3_boxAt_21 rfl 3 rfl ?_
    refine gx_iadd C dX3_boxAt_22 ?_
    obtain ⟨g23, h⟩ := h
    refine tm_ald0 C hK g23 dX3_boxAt_23 ?_
    refine gx_iload_n C dX3_boxAt_24 rfl 1 rfl ?_
    refine gx_phii (t := (if (ms_r M 0 (144 + a3)) = a1 then a3 else a2)) (pc2 := 33) (lv2 := [(0, .ref (g 0)), (1, .int a1), (2, .int a2), (3, .int a3)]) (rest2 := []) (fun key => ?_) ?_
    · refine gx_icmp_ne (tgt := 32) C dX3_boxAt_25 (by decide) (fun z1 => ?_) (fun z1 => ?_)
      · refine gx_iload_n C dX3_boxAt_32 rfl 2 rfl ?_
        exact gx_casti (if_neg z1) key
      · refine gx_iload_n C dX3_boxAt_28 rfl 3 rfl ?_
        refine gx_goto (tgt := 33) C dX3_boxAt_29 (by decide) ?_
        exact gx_casti (if_pos z1) key
    refine gx_topi (fun x33 e_x33 => ?_)
    replace h := h x33 e_x33
    refine gx_istore_n (lv' := [(2, .int x33), (0, .ref (g 0)), (1, .int a1), (3, .int a3)]) C dX3_boxAt_33 rfl (by decide) rfl ?_
    refine gx_iinc (v := a3 + 1) (k := 3) (lv' := [(3, .int (a3 + 1)), (2, .int x33), (0, .ref (g 0)), (1, .int a1)]) C dX3_boxAt_34 rfl rfl (by decide) rfl ?_
    refine gx_goto (tgt := 4) C dX3_boxAt_37 (by decide) ?_
    refine gx_sub [2, 3, 1, 0] rfl ?_
    exact hk4 M a1 x33 (a3 + 1) h
def tl_X3_boxAt_4 (Q : Int32 → MS → Prop) : Nat → MS → Int32 → Int32 → Int32 → Prop
  | 0, _, _, _, _ => False
  | n + 1, M, a1, a2, a3 => tj_X3_boxAt_4 M a1 a2 a3 (fun M a1 a2 a3 => tl_X3_boxAt_4 Q n M a1 a2 a3) Q
theorem te_X3_boxAt_4 {l : Launch} {p : Program} {e : Env} {s : State} {m : MethodId} {args : Array Value} {below : List Frame} {meth : Method} {c : Code} {D : va_G} {g : Nat → Nat} {cI cJ : ClassId} (C : gx_C p s m args meth c cX3_boxAt 4 (some .int) RX3) (hK : va_K D gcl [(cI, .int), (cJ, .long)] s) {Q : Int32 → MS → Prop}  (n : Nat) : ∀ (M : MS) (a1 : Int32) (a2 : Int32) (a3 : Int32), tl_X3_boxAt_4 Q n M a1 a2 a3 → gx_W p l e (headSpec (ws_ yX3_boxAt cX3_boxAt 4 (some .int)) rmX3_boxAt).room s m args below meth c 4 (tm_I D g cI cJ s M) 0 0 (MQ below (va_Qi Q (tm_B D g cI cJ s.heap.size) (tm_A g s.heap.size)) args s 0 0 (tm_A g s.heap.size)) 4 [(0, .ref (g 0)), (1, .int a1), (2, .int a2), (3, .int a3)] [] := by
  induction n with
  | zero => intro M a1 a2 a3 h; exact False.elim h
  | succ n ih => intro M a1 a2 a3 h; exact tb_X3_boxAt_4 C hK (show tj_X3_boxAt_4 M a1 a2 a3 (fun M a1 a2 a3 => tl_X3_boxAt_4 Q n M a1 a2 a3) Q from h) (fun M a1 a2 a3 h => ih M a1 a2 a3 h)
def tw_X3_boxAt (M : MS) (a1 : Int32) (Q : Int32 → MS → Prop) : Prop :=
  ∃ n : Nat, tl_X3_boxAt_4 Q n M a1 (-1) 0
theorem tk_X3_boxAt {l : Launch} {D : va_G} {g : Nat → Nat} {cI cJ : ClassId} {sz : Nat} {M : MS} {a1 : Int32} {Q : Int32 → MS → Prop} (h : tw_X3_boxAt M a1 Q) : tm_Met l yX3_boxAt cX3_boxAt 4 (some .int) rmX3_boxAt [.int a1] D g cI cJ sz M (va_Qi Q (tm_B D g cI cJ sz) (tm_A g sz)) := by
  refine tm_entry (by decide) (Nat.le_of_ble_eq_true rfl) (fun p e s m args below meth c hsz C hK => ?_)
  subst hsz
  unfold tw_X3_boxAt at h
  show gx_W p l e (headSpec (ws_ yX3_boxAt cX3_boxAt 4 (some .int)) rmX3_boxAt).room s m args below meth c 4 (tm_I D g cI cJ s M) 0 0 (MQ below (va_Qi Q (tm_B D g cI cJ s.heap.size) (tm_A g s.heap.size)) args s 0 0 (tm_A g s.heap.size)) 0 [(0, .ref (g 0)), (1, .int a1)] []
  refine gx_iconst (v := (-1)) C dX3_boxAt_0 (by decide) ?_
  refine gx_istore_n (lv' := [(2, .int ((-1))), (0, .ref (g 0)), (1, .int a1)]) C dX3_boxAt_1 rfl (by decide) rfl ?_
  refine gx_iconst (v := 0) C dX3_boxAt_2 (by decide) ?_
  refine gx_istore_n (lv' := [(3, .int 0), (2, .int ((-1))), (0, .ref (g 0)), (1, .int a1)]) C dX3_boxAt_3 rfl (by decide) rfl ?_
  refine gx_sub [2, 3, 1, 0] rfl ?_
  obtain ⟨n, h⟩ := h
  exact te_X3_boxAt_4 C hK n M a1 (-1) 0 h
/-! canSetLand(II)Z -/
abbrev rmX3_canSetLand : Room := { frames := 1, cells := 0, slots := 0, locals := 23 }
theorem dmX3_canSetLand : yX3_canSetLand.cls ≠ "java/lang/invoke/MethodHandle" ∧ yX3_canSetLand.cls ≠ "java/lang/invoke/VarHandle" ∧ (parseMethodDescriptor yX3_canSetLand.desc).map (fun d => d.parameters.length) = some 2 := by decide +kernel
def tj_X3_canSetLand_19 (M : MS) (s0 : Int32) (Q : Int32 → MS → Prop) : Prop :=
  (narrow .boolean (.int s0) = .int s0 ∧ Q s0 M)
theorem tb_X3_canSetLand_19 {l : Launch} {p : Program} {e : Env} {s : State} {m : MethodId} {args : Array Value} {below : List Frame} {meth : Method} {c : Code} {D : va_G} {g : Nat → Nat} {cI cJ : ClassId} (C : gx_C p s m args meth c cX3_canSetLand 3 (some .boolean) RX3) (hK : va_K D gcl [(cI, .int), (cJ, .long)] s) {M : MS} {s0 : Int32} {Q : Int32 → MS → Prop} (h : tj_X3_canSetLand_19 M s0 Q)  : gx_W p l e (headSpec (ws_ yX3_canSetLand cX3_canSetLand 3 (some .boolean)) rmX3_canSetLand).room s m args below meth c 3 (tm_I D g cI cJ s M) 0 0 (MQ below (va_Qi Q (tm_B D g cI cJ s.heap.size) (tm_A g s.heap.size)) args s 0 0 (tm_A g s.heap.size)) 19 [] [.int s0] := by
  unfold tj_X3_canSetLand_19 at h
  obtain ⟨g19, h⟩ := h
  exact tm_zret C hK g19 h dX3_canSetLand_19
def tj_X3_canSetLand_14 (M : MS) (Q : Int32 → MS → Prop) : Prop :=
  tj_X3_canSetLand_19 M 1 Q
theorem tb_X3_canSetLand_14 {l : Launch} {p : Program} {e : Env} {s : State} {m : MethodId} {args : Array Value} {below : List Frame} {meth : Method} {c : Code} {D : va_G} {g : Nat → Nat} {cI cJ : ClassId} (C : gx_C p s m args meth c cX3_canSetLand 3 (some .boolean) RX3) (hK : va_K D gcl [(cI, .int), (cJ, .long)] s) {M : MS} {Q : Int32 → MS → Prop} (h : tj_X3_canSetLand_14 M Q)  : gx_W p l e (headSpec (ws_ yX3_canSetLand cX3_canSetLand 3 (some .boolean)) rmX3_canSetLand).room s m args below meth c 3 (tm_I D g cI cJ s M) 0 0 (MQ below (va_Qi Q (tm_B D g cI cJ s.heap.size) (tm_A g s.heap.size)) args s 0 0 (tm_A g s.heap.size)) 14 [] [] := by
  unfold tj_X3_canSetLand_14 at h
  refine gx_iconst (v := 1) C dX3_canSetLand_14 (by decide) ?_
  refine gx_goto (tgt := 19) C dX3_canSetLand_15 (by decide) ?_
  exact tb_X3_canSetLand_19 C hK h
def tw_X3_canSetLand (M : MS) (a1 : Int32) (a2 : Int32) (Q : Int32 → MS → Prop) : Prop :=
  ((a2 = 3 → tw_X3_boxAt M a1 (fun r7 M7 => ((r7 = (-1) → tj_X3_canSetLand_14 M7 Q) ∧ (¬ (r7 = (-1)) → tj_X3_canSetLand_19 M7 0 Q)))) ∧ (¬ (a2 = 3) → tj_X3_canSetLand_14 M Q))
theorem tk_X3_canSetLand {l : Launch} {D : va_G} {g : Nat → Nat} {cI cJ : ClassId} {sz : Nat} {M : MS} {a1 : Int32} {a2 : Int32} {Q : Int32 → MS → Prop} (h : tw_X3_canSetLand M a1 a2 Q) : tm_Met l yX3_canSetLand cX3_canSetLand 3 (some .boolean) rmX3_canSetLand [.int a1, .int a2] D g cI cJ sz M (va_Qi Q (tm_B D g cI cJ sz) (tm_A g sz)) := by
  refine tm_entry (by decide) (Nat.le_of_ble_eq_true rfl) (fun p e s m args below meth c hsz C hK => ?_)
  subst hsz
  unfold tw_X3_canSetLand at h
  show gx_W p l e (headSpec (ws_ yX3_canSetLand cX3_canSetLand 3 (some .boolean)) rmX3_canSetLand).room s m args below meth c 3 (tm_I D g cI cJ s M) 0 0 (MQ below (va_Qi Q (tm_B D g cI cJ s.heap.size) (tm_A g s.heap.size)) args s 0 0 (tm_A g s.heap.size)) 0 [(0, .ref (g 0)), (1, .int a1), (2, .int a2)] []
  refine gx_iload_n C dX3_canSetLand_0 rfl 2 rfl ?_
  refine gx_iconst (v := 3) C dX3_canSetLand_1 (by decide) ?_
  refine gx_icmp_ne (tgt := 14) C dX3_canSetLand_2 (by decide) (fun z => ?_) (fun z => ?_)
  · replace h := h.2 z
    refine gx_sub [] rfl ?_
    exact tb_X3_canSetLand_14 C hK h
  · replace h := h.1 z
    refine gx_aload_n C dX3_canSetLand_5 rfl 0 rfl ?_
    refine gx_iload_n C dX3_canSetLand_6 rfl 1 rfl ?_
    refine tm_calli (rest := []) C hK (fun sz => tk_X3_boxAt h) (cwV 1 C.t (lw_V q2367 q2369 qs46 q130 q2370) rfl rfl rfl ⟨rfl, dmX3_boxAt⟩ ⟨Nat.le_of_ble_eq_true rfl, Nat.le_of_ble_eq_true rfl⟩) rfl rfl (Nat.le_of_ble_eq_true rfl) dX3_canSetLand_7 (fun r7 M7 h => ?_)
    refine gx_iconst (v := (-1)) C dX3_canSetLand_10 (by decide) ?_
    refine gx_icmp_ne (tgt := 18) C dX3_canSetLand_11 (by decide) (fun z => ?_) (fun z => ?_)
    · replace h := h.2 z
      refine gx_iconst (v := 0) C dX3_canSetLand_18 (by decide) ?_
      refine gx_sub [] rfl ?_
      exact tb_X3_canSetLand_19 C hK h
    · replace h := h.1 z
      refine gx_sub [] rfl ?_
      exact tb_X3_canSetLand_14 C hK h
/-! record()V -/
abbrev rmX3_record : Room := { frames := 0, cells := 0, slots := 0, locals := 0 }
theorem dmX3_record : yX3_record.cls ≠ "java/lang/invoke/MethodHandle" ∧ yX3_record.cls ≠ "java/lang/invoke/VarHandle" ∧ (parseMethodDescriptor yX3_record.desc).map (fun d => d.parameters.length) = some 0 := by decide +kernel
def tj_X3_record_52 (M : MS) (a1 : Int32) (k52 : MS → Int32 → Prop) (Q : MS → Prop) : Prop :=
  ((754 ≤ a1 → (∀ M93 : MS, M93 = ms_s M 3 ((M.1 3) + 1) → Q M93)) ∧ (¬ (754 ≤ a1) → (vp_in a1 754 ∧ (vp_in (((M.1 3) * 754) + a1) 4524 ∧ ∀ M79 : MS, M79 = ms_a M 1 (((M.1 3) * 754) + a1) (ms_r M 0 a1) → k52 M79 (a1 + 1)))))
theorem tb_X3_record_52 {l : Launch} {p : Program} {e : Env} {s : State} {m : MethodId} {args : Array Value} {below : List Frame} {meth : Method} {c : Code} {D : va_G} {g : Nat → Nat} {cI cJ : ClassId} (C : gx_C p s m args meth c cX3_record 2 none RX3) (hK : va_K D gcl [(cI, .int), (cJ, .long)] s) {M : MS} {a1 : Int32} {k52 : MS → Int32 → Prop} {Q : MS → Prop} (h : tj_X3_record_52 M a1 k52 Q) (hk52 : ∀ (M : MS) (a1 : Int32), k52 M a1 → gx_W p l e (headSpec (ws_ yX3_record cX3_record 2 none) rmX3_record).room s m args below meth c 2 (tm_I D g cI cJ s M) 0 0 (MQ below (va_Qv Q (tm_B D g cI cJ s.heap.size) (tm_A g s.heap.size)) args s 0 0 (tm_A g s.heap.size)) 52 [(0, .ref (g 0)), (1, .int a1)] []) : gx_W p l e (headSpec (ws_ yX3_record cX3_record 2 none) rmX3_record).room s m args below meth c 2 (tm_I D g cI cJ s M) 0 0 (MQ below (va_Qv Q (tm_B D g cI cJ s.heap.size) (tm_A g s.heap.size)) args s 0 0 (tm_A g s.heap.size)) 52 [(0, .ref (g 0)), (1, .int a1)] [] := by
  unfold tj_X3_record_52 at h
  refine gx_iload_n C dX3_record_52 rfl 1 rfl ?_
  refine gx_sipush (v := 754) C dX3_record_53 (by decide) ?_
  refine gx_icmp_ge (tgt := 86) C dX3_record_56 (by decide) (fun z => ?_) (fun z => ?_)
  · replace h := h.1 z
    refine gx_aload_n C dX3_record_86 rfl 0 rfl ?_
    refine gx_dup C dX3_record_87 rfl ?_
    refine tm_get C hK 3 (by decide) q2303 rfl rfl dX3_record_88 ?_
    refine gx_iconst (v := 1) C dX3_record_91 (by decide) ?_
    refine gx_iadd C dX3_record_92 ?_
    refine tm_put3 C hK q2303 dX3_record_93 (fun M93 e_M93 => ?_)
    replace h := h M93 e_M93
    exact tm_vret C hK h dX3_record_96
  · replace h := h.2 z
    refine gx_aload_n C dX3_record_59 rfl 0 rfl ?_
    refine tm_get C hK 2 (by decide) q2302 rfl rfl dX3_record_60 ?_
    refine gx_aload_n C dX3_record_63 rfl 0 rfl ?_
    refine tm_get C hK 3 (by decide) q2303 rfl rfl dX3_record_64 ?_
    refine gx_sipush (v := 754) C dX3_record_67 (by decide) ?_
    refine gx_imul C dX3_record_70 ?_
    refine gx_iload_n C dX3_record_71 rfl 1 rfl ?_
    refine gx_iadd C dX3_record_72 ?_
    refine gx_aload_n C dX3_record_73 rfl 0 rfl ?_
    refine tm_get C hK 1 (by decide) q2301 rfl rfl dX3_record_74 ?_
    refine gx_iload_n C dX3_record_77 rfl 1 rfl ?_
    obtain ⟨g78, h⟩ := h
    refine tm_ald0 C hK g78 dX3_record_78 ?_
    obtain ⟨g79, h⟩ := h
    refine tm_ast1 C hK g79 dX3_record_79 (fun M79 e_M79 => ?_)
    replace h := h M79 e_M79
    refine gx_iinc (v := a1 + 1) (k := 1) (lv' := [(1, .int (a1 + 1)), (0, .ref (g 0))]) C dX3_record_80 rfl rfl (by decide) rfl ?_
    refine gx_goto (tgt := 52) C dX3_record_83 (by decide) ?_
    refine gx_sub [1, 0] rfl ?_
    exact hk52 M79 (a1 + 1) h
def tl_X3_record_52 (Q : MS → Prop) : Nat → MS → Int32 → Prop
  | 0, _, _ => False
  | n + 1, M, a1 => tj_X3_record_52 M a1 (fun M a1 => tl_X3_record_52 Q n M a1) Q
theorem te_X3_record_52 {l : Launch} {p : Program} {e : Env} {s : State} {m : MethodId} {args : Array Value} {below : List Frame} {meth : Method} {c : Code} {D : va_G} {g : Nat → Nat} {cI cJ : ClassId} (C : gx_C p s m args meth c cX3_record 2 none RX3) (hK : va_K D gcl [(cI, .int), (cJ, .long)] s) {Q : MS → Prop}  (n : Nat) : ∀ (M : MS) (a1 : Int32), tl_X3_record_52 Q n M a1 → gx_W p l e (headSpec (ws_ yX3_record cX3_record 2 none) rmX3_record).room s m args below meth c 2 (tm_I D g cI cJ s M) 0 0 (MQ below (va_Qv Q (tm_B D g cI cJ s.heap.size) (tm_A g s.heap.size)) args s 0 0 (tm_A g s.heap.size)) 52 [(0, .ref (g 0)), (1, .int a1)] [] := by
  induction n with
  | zero => intro M a1 h; exact False.elim h
  | succ n ih => intro M a1 h; exact tb_X3_record_52 C hK (show tj_X3_record_52 M a1 (fun M a1 => tl_X3_record_52 Q n M a1) Q from h) (fun M a1 h => ih M a1 h)
def tj_X3_record_50 (M : MS) (Q : MS → Prop) : Prop :=
  ∃ n : Nat, tl_X3_record_52 Q n M 0
theorem tb_X3_record_50 {l : Launch} {p : Program} {e : Env} {s : State} {m : MethodId} {args : Array Value} {below : List Frame} {meth : Method} {c : Code} {D : va_G} {g : Nat → Nat} {cI cJ : ClassId} (C : gx_C p s m args meth c cX3_record 2 none RX3) (hK : va_K D gcl [(cI, .int), (cJ, .long)] s) {M : MS} {Q : MS → Prop} (h : tj_X3_record_50 M Q)  : gx_W p l e (headSpec (ws_ yX3_record cX3_record 2 none) rmX3_record).room s m args below meth c 2 (tm_I D g cI cJ s M) 0 0 (MQ below (va_Qv Q (tm_B D g cI cJ s.heap.size) (tm_A g s.heap.size)) args s 0 0 (tm_A g s.heap.size)) 50 [(0, .ref (g 0))] [] := by
  unfold tj_X3_record_50 at h
  refine gx_iconst (v := 0) C dX3_record_50 (by decide) ?_
  refine gx_istore_n (lv' := [(1, .int 0), (0, .ref (g 0))]) C dX3_record_51 rfl (by decide) rfl ?_
  refine gx_sub [1, 0] rfl ?_
  obtain ⟨n, h⟩ := h
  exact te_X3_record_52 C hK n M 0 h
def tj_X3_record_11 (M : MS) (a1 : Int32) (k11 : MS → Int32 → Prop) (Q : MS → Prop) : Prop :=
  ((3770 ≤ a1 → (∀ M47 : MS, M47 = ms_s M 3 ((M.1 3) - 1) → tj_X3_record_50 M47 Q)) ∧ (¬ (3770 ≤ a1) → (vp_in (a1 + 754) 4524 ∧ (vp_in a1 4524 ∧ ∀ M33 : MS, M33 = ms_a M 1 a1 (ms_r M 1 (a1 + 754)) → k11 M33 (a1 + 1)))))
theorem tb_X3_record_11 {l : Launch} {p : Program} {e : Env} {s : State} {m : MethodId} {args : Array Value} {below : List Frame} {meth : Method} {c : Code} {D : va_G} {g : Nat → Nat} {cI cJ : ClassId} (C : gx_C p s m args meth c cX3_record 2 none RX3) (hK : va_K D gcl [(cI, .int), (cJ, .long)] s) {M : MS} {a1 : Int32} {k11 : MS → Int32 → Prop} {Q : MS → Prop} (h : tj_X3_record_11 M a1 k11 Q) (hk11 : ∀ (M : MS) (a1 : Int32), k11 M a1 → gx_W p l e (headSpec (ws_ yX3_record cX3_record 2 none) rmX3_record).room s m args below meth c 2 (tm_I D g cI cJ s M) 0 0 (MQ below (va_Qv Q (tm_B D g cI cJ s.heap.size) (tm_A g s.heap.size)) args s 0 0 (tm_A g s.heap.size)) 11 [(0, .ref (g 0)), (1, .int a1)] []) : gx_W p l e (headSpec (ws_ yX3_record cX3_record 2 none) rmX3_record).room s m args below meth c 2 (tm_I D g cI cJ s M) 0 0 (MQ below (va_Qv Q (tm_B D g cI cJ s.heap.size) (tm_A g s.heap.size)) args s 0 0 (tm_A g s.heap.size)) 11 [(0, .ref (g 0)), (1, .int a1)] [] := by
  unfold tj_X3_record_11 at h
  refine gx_iload_n C dX3_record_11 rfl 1 rfl ?_
  refine gx_sipush (v := 3770) C dX3_record_12 (by decide) ?_
  refine gx_icmp_ge (tgt := 40) C dX3_record_15 (by decide) (fun z => ?_) (fun z => ?_)
  · replace h := h.1 z
    refine gx_aload_n C dX3_record_40 rfl 0 rfl ?_
    refine gx_dup C dX3_record_41 rfl ?_
    refine tm_get C hK 3 (by decide) q2303 rfl rfl dX3_record_42 ?_
    refine gx_iconst (v := 1) C dX3_record_45 (by decide) ?_
    refine gx_isub C dX3_record_46 ?_
    refine tm_put3 C hK q2303 dX3_record_47 (fun M47 e_M47 => ?_)
    replace h := h M47 e_M47
    refine gx_sub [0] rfl ?_
    exact tb_X3_record_50 C hK h
  · replace h := h.2 z
    refine gx_aload_n C dX3_record_18 rfl 0 rfl ?_
    refine tm_get C hK 2 (by decide) q2302 rfl rfl dX3_record_19 ?_
    refine gx_iload_n C dX3_record_22 rfl 1 rfl ?_
    refine gx_aload_n C dX3_record_23 rfl 0 rfl ?_
    refine tm_get C hK 2 (by decide) q2302 rfl rfl dX3_record_24 ?_
    refine gx_iload_n C dX3_record_27 rfl 1 rfl ?_
    refine gx_sipush (v := 754) C dX3_record_28 (by decide) ?_
    refine gx_iadd C dX3_record_31 ?_
    obtain ⟨g32, h⟩ := h
    refine tm_ald1 C hK g32 dX3_record_32 ?_
    obtain ⟨g33, h⟩ := h
    refine tm_ast1 C hK g33 dX3_record_33 (fun M33 e_M33 => ?_)
    replace h := h M33 e_M33
    refine gx_iinc (v := a1 + 1) (k := 1) (lv' := [(1, .int (a1 + 1)), (0, .ref (g 0))]) C dX3_record_34 rfl rfl (by decide) rfl ?_
    refine gx_goto (tgt := 11) C dX3_record_37 (by decide) ?_
    refine gx_sub [1, 0] rfl ?_
    exact hk11 M33 (a1 + 1) h
def tl_X3_record_11 (Q : MS → Prop) : Nat → MS → Int32 → Prop
  | 0, _, _ => False
  | n + 1, M, a1 => tj_X3_record_11 M a1 (fun M a1 => tl_X3_record_11 Q n M a1) Q
theorem te_X3_record_11 {l : Launch} {p : Program} {e : Env} {s : State} {m : MethodId} {args : Array Value} {below : List Frame} {meth : Method} {c : Code} {D : va_G} {g : Nat → Nat} {cI cJ : ClassId} (C : gx_C p s m args meth c cX3_record 2 none RX3) (hK : va_K D gcl [(cI, .int), (cJ, .long)] s) {Q : MS → Prop}  (n : Nat) : ∀ (M : MS) (a1 : Int32), tl_X3_record_11 Q n M a1 → gx_W p l e (headSpec (ws_ yX3_record cX3_record 2 none) rmX3_record).room s m args below meth c 2 (tm_I D g cI cJ s M) 0 0 (MQ below (va_Qv Q (tm_B D g cI cJ s.heap.size) (tm_A g s.heap.size)) args s 0 0 (tm_A g s.heap.size)) 11 [(0, .ref (g 0)), (1, .int a1)] [] := by
  induction n with
  | zero => intro M a1 h; exact False.elim h
  | succ n ih => intro M a1 h; exact tb_X3_record_11 C hK (show tj_X3_record_11 M a1 (fun M a1 => tl_X3_record_11 Q n M a1) Q from h) (fun M a1 h => ih M a1 h)
def tw_X3_record (M : MS) (Q : MS → Prop) : Prop :=
  (((M.1 3) = 6 → ∃ n : Nat, tl_X3_record_11 Q n M 0) ∧ (¬ (M.1 3) = 6 → tj_X3_record_50 M Q))
theorem tk_X3_record {l : Launch} {D : va_G} {g : Nat → Nat} {cI cJ : ClassId} {sz : Nat} {M : MS} {Q : MS → Prop} (h : tw_X3_record M Q) : tm_Met l yX3_record cX3_record 2 none rmX3_record [] D g cI cJ sz M (va_Qv Q (tm_B D g cI cJ sz) (tm_A g sz)) := by
  refine tm_entry (by decide) (Nat.le_of_ble_eq_true rfl) (fun p e s m args below meth c hsz C hK => ?_)
  subst hsz
  unfold tw_X3_record at h
  show gx_W p l e (headSpec (ws_ yX3_record cX3_record 2 none) rmX3_record).room s m args below meth c 2 (tm_I D g cI cJ s M) 0 0 (MQ below (va_Qv Q (tm_B D g cI cJ s.heap.size) (tm_A g s.heap.size)) args s 0 0 (tm_A g s.heap.size)) 0 [(0, .ref (g 0))] []
  refine gx_aload_n C dX3_record_0 rfl 0 rfl ?_
  refine tm_get C hK 3 (by decide) q2303 rfl rfl dX3_record_1 ?_
  refine gx_bipush (v := 6) C dX3_record_4 (by decide) ?_
  refine gx_icmp_ne (tgt := 50) C dX3_record_6 (by decide) (fun z => ?_) (fun z => ?_)
  · replace h := h.2 z
    exact tb_X3_record_50 C hK h
  · replace h := h.1 z
    refine gx_iconst (v := 0) C dX3_record_9 (by decide) ?_
    refine gx_istore_n (lv' := [(1, .int 0), (0, .ref (g 0))]) C dX3_record_10 rfl (by decide) rfl ?_
    refine gx_sub [1, 0] rfl ?_
    obtain ⟨n, h⟩ := h
    exact te_X3_record_11 C hK n M 0 h
/-! setsLand(II)I -/
abbrev rmX3_setsLand : Room := { frames := 0, cells := 0, slots := 0, locals := 0 }
theorem dmX3_setsLand : yX3_setsLand.cls ≠ "java/lang/invoke/MethodHandle" ∧ yX3_setsLand.cls ≠ "java/lang/invoke/VarHandle" ∧ (parseMethodDescriptor yX3_setsLand.desc).map (fun d => d.parameters.length) = some 2 := by decide +kernel
def tj_X3_setsLand_46 (M : MS) (a3 : Int32) (s1 : Int32) (s2 : Int32) (Q : Int32 → MS → Prop) : Prop :=
  (vp_in s1 754 ∧ ∀ M46 : MS, M46 = ms_a M 0 s1 s2 → Q a3 M46)
theorem tb_X3_setsLand_46 {l : Launch} {p : Program} {e : Env} {s : State} {m : MethodId} {args : Array Value} {below : List Frame} {meth : Method} {c : Code} {D : va_G} {g : Nat → Nat} {cI cJ : ClassId} (C : gx_C p s m args meth c cX3_setsLand 4 (some .int) RX3) (hK : va_K D gcl [(cI, .int), (cJ, .long)] s) {M : MS} {a3 : Int32} {s1 : Int32} {s2 : Int32} {Q : Int32 → MS → Prop} (h : tj_X3_setsLand_46 M a3 s1 s2 Q)  : gx_W p l e (headSpec (ws_ yX3_setsLand cX3_setsLand 4 (some .int)) rmX3_setsLand).room s m args below meth c 4 (tm_I D g cI cJ s M) 0 0 (MQ below (va_Qi Q (tm_B D g cI cJ s.heap.size) (tm_A g s.heap.size)) args s 0 0 (tm_A g s.heap.size)) 46 [(3, .int a3)] [.int s2, .int s1, .ref (g 1)] := by
  unfold tj_X3_setsLand_46 at h
  obtain ⟨g46, h⟩ := h
  refine tm_ast0 C hK g46 dX3_setsLand_46 (fun M46 e_M46 => ?_)
  replace h := h M46 e_M46
  refine gx_iload_n C dX3_setsLand_47 rfl 0 rfl ?_
  exact tm_iret C hK h dX3_setsLand_48
def tw_X3_setsLand (M : MS) (a1 : Int32) (a2 : Int32) (Q : Int32 → MS → Prop) : Prop :=
  (vp_in (16 + a1) 754 ∧ (vp_in (16 + a1) 754 ∧ ∀ M19 : MS, M19 = ms_a M 0 (16 + a1) a2 → ((a2 = 3 → tj_X3_setsLand_46 M19 (ms_r M 0 (16 + a1)) (80 + a1) 0 Q) ∧ (¬ (a2 = 3) → (vp_in (80 + a1) 754 ∧ tj_X3_setsLand_46 M19 (ms_r M 0 (16 + a1)) (80 + a1) (ms_r M19 0 (80 + a1)) Q)))))
theorem tk_X3_setsLand {l : Launch} {D : va_G} {g : Nat → Nat} {cI cJ : ClassId} {sz : Nat} {M : MS} {a1 : Int32} {a2 : Int32} {Q : Int32 → MS → Prop} (h : tw_X3_setsLand M a1 a2 Q) : tm_Met l yX3_setsLand cX3_setsLand 4 (some .int) rmX3_setsLand [.int a1, .int a2] D g cI cJ sz M (va_Qi Q (tm_B D g cI cJ sz) (tm_A g sz)) := by
  refine tm_entry (by decide) (Nat.le_of_ble_eq_true rfl) (fun p e s m args below meth c hsz C hK => ?_)
  subst hsz
  unfold tw_X3_setsLand at h
  show gx_W p l e (headSpec (ws_ yX3_setsLand cX3_setsLand 4 (some .int)) rmX3_setsLand).room s m args below meth c 4 (tm_I D g cI cJ s M) 0 0 (MQ below (va_Qi Q (tm_B D g cI cJ s.heap.size) (tm_A g s.heap.size)) args s 0 0 (tm_A g s.heap.size)) 0 [(0, .ref (g 0)), (1, .int a1), (2, .int a2)] []
  refine gx_aload_n C dX3_setsLand_0 rfl 0 rfl ?_
  refine tm_get C hK 1 (by decide) q2301 rfl rfl dX3_setsLand_1 ?_
  refine gx_bipush (v := 16) C dX3_setsLand_4 (by decide) ?_
  refine gx_iload_n C dX3_setsLand_6 rfl 1 rfl ?_
  refine gx_iadd C dX3_setsLand_7 ?_
  obtain ⟨g8, h⟩ := h
  refine tm_ald0 C hK g8 dX3_setsLand_8 ?_
  refine gx_istore_n (lv' := [(3, .int (ms_r M 0 (16 + a1))), (0, .ref (g 0)), (1, .int a1), (2, .int a2)]) C dX3_setsLand_9 rfl (by decide) rfl ?_
  refine gx_aload_n C dX3_setsLand_10 rfl 1 rfl ?_
  refine tm_get C hK 1 (by decide) q2301 rfl rfl dX3_setsLand_11 ?_
  refine gx_bipush (v := 16) C dX3_setsLand_14 (by decide) ?_
  refine gx_iload_n C dX3_setsLand_16 rfl 2 rfl ?_
  refine gx_iadd C dX3_setsLand_17 ?_
  refine gx_iload_n C dX3_setsLand_18 rfl 3 rfl ?_
  obtain ⟨g19, h⟩ := h
  refine tm_ast0 C hK g19 dX3_setsLand_19 (fun M19 e_M19 => ?_)
  replace h := h M19 e_M19
  refine gx_aload_n C dX3_setsLand_20 rfl 1 rfl ?_
  refine tm_get C hK 1 (by decide) q2301 rfl rfl dX3_setsLand_21 ?_
  refine gx_bipush (v := 80) C dX3_setsLand_24 (by decide) ?_
  refine gx_iload_n C dX3_setsLand_26 rfl 2 rfl ?_
  refine gx_iadd C dX3_setsLand_27 ?_
  refine gx_iload_n C dX3_setsLand_28 rfl 3 rfl ?_
  refine gx_iconst (v := 3) C dX3_setsLand_29 (by decide) ?_
  refine gx_icmp_ne (tgt := 37) C dX3_setsLand_30 (by decide) (fun z => ?_) (fun z => ?_)
  · replace h := h.2 z
    refine gx_aload_n C dX3_setsLand_37 rfl 1 rfl ?_
    refine tm_get C hK 1 (by decide) q2301 rfl rfl dX3_setsLand_38 ?_
    refine gx_bipush (v := 80) C dX3_setsLand_41 (by decide) ?_
    refine gx_iload_n C dX3_setsLand_43 rfl 2 rfl ?_
    refine gx_iadd C dX3_setsLand_44 ?_
    obtain ⟨g45, h⟩ := h
    refine tm_ald0 C hK g45 dX3_setsLand_45 ?_
    refine gx_sub [0] rfl ?_
    exact tb_X3_setsLand_46 C hK h
  · replace h := h.1 z
    refine gx_iconst (v := 0) C dX3_setsLand_33 (by decide) ?_
    refine gx_goto (tgt := 46) C dX3_setsLand_34 (by decide) ?_
    refine gx_sub [0] rfl ?_
    exact tb_X3_setsLand_46 C hK h
/-! setLand(II)I -/
abbrev rmX3_setLand : Room := { frames := 2, cells := 0, slots := 0, locals := 45 }
theorem dmX3_setLand : yX3_setLand.cls ≠ "java/lang/invoke/MethodHandle" ∧ yX3_setLand.cls ≠ "java/lang/invoke/VarHandle" ∧ (parseMethodDescriptor yX3_setLand.desc).map (fun d => d.parameters.length) = some 2 := by decide +kernel
def tj_X3_setLand_39 (M : MS) (a1 : Int32) (a2 : Int32) (s1 : Int32) (Q : Int32 → MS → Prop) : Prop :=
  (∀ M39 : MS, M39 = ms_s M 0 s1 → (((M39.1 0) ≤ 0 → tw_X3_record M39 (fun M52 => tw_X3_setsLand M52 a1 a2 (fun r58 M58 => Q r58 M58))) ∧ (¬ (M39.1 0) ≤ 0 → Q 0 M39)))
theorem tb_X3_setLand_39 {l : Launch} {p : Program} {e : Env} {s : State} {m : MethodId} {args : Array Value} {below : List Frame} {meth : Method} {c : Code} {D : va_G} {g : Nat → Nat} {cI cJ : ClassId} (C : gx_C p s m args meth c cX3_setLand 3 (some .int) RX3) (hK : va_K D gcl [(cI, .int), (cJ, .long)] s) {M : MS} {a1 : Int32} {a2 : Int32} {s1 : Int32} {Q : Int32 → MS → Prop} (h : tj_X3_setLand_39 M a1 a2 s1 Q)  : gx_W p l e (headSpec (ws_ yX3_setLand cX3_setLand 3 (some .int)) rmX3_setLand).room s m args below meth c 3 (tm_I D g cI cJ s M) 0 0 (MQ below (va_Qi Q (tm_B D g cI cJ s.heap.size) (tm_A g s.heap.size)) args s 0 0 (tm_A g s.heap.size)) 39 [(0, .ref (g 0)), (1, .int a1), (2, .int a2)] [.int s1, .ref (g 0)] := by
  unfold tj_X3_setLand_39 at h
  refine tm_put0 C hK q2300 dX3_setLand_39 (fun M39 e_M39 => ?_)
  replace h := h M39 e_M39
  refine gx_aload_n C dX3_setLand_42 rfl 0 rfl ?_
  refine tm_get C hK 0 (by decide) q2300 rfl rfl dX3_setLand_43 ?_
  refine gx_if_le (tgt := 51) C dX3_setLand_46 (by decide) (fun z => ?_) (fun z => ?_)
  · replace h := h.1 z
    refine gx_aload_n C dX3_setLand_51 rfl 0 rfl ?_
    refine tm_callv (rest := []) C hK (fun sz => tk_X3_record h) (cwV 0 C.t (lw_V q2371 q2373 qs47 q130 q2374) rfl rfl rfl ⟨rfl, dmX3_record⟩ ⟨Nat.le_of_ble_eq_true rfl, Nat.le_of_ble_eq_true rfl⟩) rfl rfl (Nat.le_of_ble_eq_true rfl) dX3_setLand_52 (fun M52 h => ?_)
    refine gx_aload_n C dX3_setLand_55 rfl 0 rfl ?_
    refine gx_iload_n C dX3_setLand_56 rfl 1 rfl ?_
    refine gx_iload_n C dX3_setLand_57 rfl 2 rfl ?_
    refine tm_calli (rest := []) C hK (fun sz => tk_X3_setsLand h) (cwV 2 C.t (lw_V q2375 q2377 qs48 q130 q2378) rfl rfl rfl ⟨rfl, dmX3_setsLand⟩ ⟨Nat.le_of_ble_eq_true rfl, Nat.le_of_ble_eq_true rfl⟩) rfl rfl (Nat.le_of_ble_eq_true rfl) dX3_setLand_58 (fun r58 M58 h => ?_)
    exact tm_iret C hK h dX3_setLand_61
  · replace h := h.2 z
    refine gx_iconst (v := 0) C dX3_setLand_49 (by decide) ?_
    exact tm_iret C hK h dX3_setLand_50
def tw_X3_setLand (M : MS) (a1 : Int32) (a2 : Int32) (Q : Int32 → MS → Prop) : Prop :=
  pw_X3_isSquare a1 (fun r2 => ((r2 = 0 → tj_X3_setLand_39 M a1 a2 1 Q) ∧ (¬ (r2 = 0) → pw_X3_within a2 0 3 (fun r15 => ((r15 = 0 → tj_X3_setLand_39 M a1 a2 2 Q) ∧ (¬ (r15 = 0) → tw_X3_canSetLand M a1 a2 (fun r28 M28 => tj_X3_setLand_39 M28 a1 a2 ((if r28 = 0 then 3 else 0)) Q)))))))
theorem tk_X3_setLand {l : Launch} {D : va_G} {g : Nat → Nat} {cI cJ : ClassId} {sz : Nat} {M : MS} {a1 : Int32} {a2 : Int32} {Q : Int32 → MS → Prop} (h : tw_X3_setLand M a1 a2 Q) : tm_Met l yX3_setLand cX3_setLand 3 (some .int) rmX3_setLand [.int a1, .int a2] D g cI cJ sz M (va_Qi Q (tm_B D g cI cJ sz) (tm_A g sz)) := by
  refine tm_entry (by decide) (Nat.le_of_ble_eq_true rfl) (fun p e s m args below meth c hsz C hK => ?_)
  subst hsz
  unfold tw_X3_setLand at h
  show gx_W p l e (headSpec (ws_ yX3_setLand cX3_setLand 3 (some .int)) rmX3_setLand).room s m args below meth c 3 (tm_I D g cI cJ s M) 0 0 (MQ below (va_Qi Q (tm_B D g cI cJ s.heap.size) (tm_A g s.heap.size)) args s 0 0 (tm_A g s.heap.size)) 0 [(0, .ref (g 0)), (1, .int a1), (2, .int a2)] []
  refine gx_aload_n C dX3_setLand_0 rfl 0 rfl ?_
  refine gx_iload_n C dX3_setLand_1 rfl 1 rfl ?_
  refine gx_calls_i (rest := [.ref (g 0)]) C (pk_X3_isSquare h) (va_cwS 1 C.t (lw_S q2357 q2358 q130 q2359) rfl rfl rfl dmX3_isSquare ⟨Nat.le_of_ble_eq_true rfl, Nat.le_of_ble_eq_true rfl⟩) rfl rfl (Nat.le_of_ble_eq_true rfl) ⟨Nat.zero_le _, Nat.zero_le _⟩ dX3_setLand_2 (fun r2 h => ?_)
  refine gx_if_ne (tgt := 12) C dX3_setLand_5 (by decide) (fun z => ?_) (fun z => ?_)
  · replace h := h.2 z
    refine gx_iload_n C dX3_setLand_12 rfl 2 rfl ?_
    refine gx_iconst (v := 0) C dX3_setLand_13 (by decide) ?_
    refine gx_iconst (v := 3) C dX3_setLand_14 (by decide) ?_
    refine gx_calls_i (rest := [.ref (g 0)]) C (pk_X3_within h) (va_cwS 3 C.t (lw_S q2360 q2361 q130 q2362) rfl rfl rfl dmX3_within ⟨Nat.le_of_ble_eq_true rfl, Nat.le_of_ble_eq_true rfl⟩) rfl rfl (Nat.le_of_ble_eq_true rfl) ⟨Nat.zero_le _, Nat.zero_le _⟩ dX3_setLand_15 (fun r15 h => ?_)
    refine gx_if_ne (tgt := 25) C dX3_setLand_18 (by decide) (fun z => ?_) (fun z => ?_)
    · replace h := h.2 z
      refine gx_aload_n C dX3_setLand_25 rfl 0 rfl ?_
      refine gx_iload_n C dX3_setLand_26 rfl 1 rfl ?_
      refine gx_iload_n C dX3_setLand_27 rfl 2 rfl ?_
      refine tm_calli (rest := [.ref (g 0)]) C hK (fun sz => tk_X3_canSetLand h) (cwV 2 C.t (lw_V q2363 q2365 qs45 q130 q2366) rfl rfl rfl ⟨rfl, dmX3_canSetLand⟩ ⟨Nat.le_of_ble_eq_true rfl, Nat.le_of_ble_eq_true rfl⟩) rfl rfl (Nat.le_of_ble_eq_true rfl) dX3_setLand_28 (fun r28 M28 h => ?_)
      refine gx_phii (t := (if r28 = 0 then 3 else 0)) (pc2 := 39) (lv2 := [(0, .ref (g 0)), (1, .int a1), (2, .int a2)]) (rest2 := [.ref (g 0)]) (fun key => ?_) ?_
      · refine gx_if_eq (tgt := 38) C dX3_setLand_31 (by decide) (fun z1 => ?_) (fun z1 => ?_)
        · refine gx_iconst (v := 3) C dX3_setLand_38 (by decide) ?_
          exact gx_casti (if_pos z1) key
        · refine gx_iconst (v := 0) C dX3_setLand_34 (by decide) ?_
          refine gx_goto (tgt := 39) C dX3_setLand_35 (by decide) ?_
          exact gx_casti (if_neg z1) key
      exact tb_X3_setLand_39 C hK h
    · replace h := h.1 z
      refine gx_iconst (v := 2) C dX3_setLand_21 (by decide) ?_
      refine gx_goto (tgt := 39) C dX3_setLand_22 (by decide) ?_
      exact tb_X3_setLand_39 C hK h
  · replace h := h.1 z
    refine gx_iconst (v := 1) C dX3_setLand_8 (by decide) ?_
    refine gx_goto (tgt := 39) C dX3_setLand_9 (by decide) ?_
    exact tb_X3_setLand_39 C hK h
/-! isLine(I)Z -/
abbrev rmX3_isLine : Room := { frames := 1, cells := 0, slots := 0, locals := 22 }
theorem dmX3_isLine : yX3_isLine.cls ≠ "java/lang/invoke/MethodHandle" ∧ yX3_isLine.cls ≠ "java/lang/invoke/VarHandle" ∧ (parseMethodDescriptor yX3_isLine.desc).map (fun d => d.parameters.length) = some 1 := by decide +kernel
def pw_X3_isLine (a0 : Int32) (Q : Int32 → Prop) : Prop :=
  pw_X3_within a0 0 7 (fun r4 => (narrow .boolean (.int r4) = .int r4 ∧ Q r4))
theorem pk_X3_isLine {l : Launch} {a0 : Int32} {Q : Int32 → Prop} (h : pw_X3_isLine a0 Q) : Met l yX3_isLine (ws_ yX3_isLine cX3_isLine 1 (some .boolean)) rmX3_isLine (va_Pc [.int a0] (fun _ => True)) (vp_Si Q) 0 0 (fun _ => False) := by
  refine ps_entry (by decide) (Nat.le_of_ble_eq_true rfl) (fun p e s m args below meth c C => ?_)
  unfold pw_X3_isLine at h
  show gx_W p l e (headSpec (ws_ yX3_isLine cX3_isLine 1 (some .boolean)) rmX3_isLine).room s m args below meth c 1 (ps_I s) 0 0 (MQ below (vp_Si Q) args s 0 0 (fun _ => False)) 0 [(0, .int a0)] []
  refine gx_iload_n C dX3_isLine_0 rfl 0 rfl ?_
  refine gx_iconst (v := 0) C dX3_isLine_1 (by decide) ?_
  refine gx_bipush (v := 7) C dX3_isLine_2 (by decide) ?_
  refine gx_calls_i (rest := []) C (pk_X3_within h) (va_cwS 3 C.t (lw_S q2360 q2361 q130 q2362) rfl rfl rfl dmX3_within ⟨Nat.le_of_ble_eq_true rfl, Nat.le_of_ble_eq_true rfl⟩) rfl rfl (Nat.le_of_ble_eq_true rfl) ⟨Nat.zero_le _, Nat.zero_le _⟩ dX3_isLine_4 (fun r4 h => ?_)
  obtain ⟨g7, h⟩ := h
  exact ps_zret C g7 h dX3_isLine_7
/-! isRoad(I)Z -/
abbrev rmX3_isRoad : Room := { frames := 0, cells := 0, slots := 0, locals := 0 }
theorem dmX3_isRoad : yX3_isRoad.cls ≠ "java/lang/invoke/MethodHandle" ∧ yX3_isRoad.cls ≠ "java/lang/invoke/VarHandle" ∧ (parseMethodDescriptor yX3_isRoad.desc).map (fun d => d.parameters.length) = some 1 := by decide +kernel
def tw_X3_isRoad (M : MS) (a1 : Int32) (Q : Int32 → MS → Prop) : Prop :=
  (vp_in (16 + a1) 754 ∧ Q (if (ms_r M 0 (16 + a1)) = 3 then 1 else 0) M)
theorem tk_X3_isRoad {l : Launch} {D : va_G} {g : Nat → Nat} {cI cJ : ClassId} {sz : Nat} {M : MS} {a1 : Int32} {Q : Int32 → MS → Prop} (h : tw_X3_isRoad M a1 Q) : tm_Met l yX3_isRoad cX3_isRoad 2 (some .boolean) rmX3_isRoad [.int a1] D g cI cJ sz M (va_Qi Q (tm_B D g cI cJ sz) (tm_A g sz)) := by
  refine tm_entry (by decide) (Nat.le_of_ble_eq_true rfl) (fun p e s m args below meth c hsz C hK => ?_)
  subst hsz
  unfold tw_X3_isRoad at h
  show gx_W p l e (headSpec (ws_ yX3_isRoad cX3_isRoad 2 (some .boolean)) rmX3_isRoad).room s m args below meth c 2 (tm_I D g cI cJ s M) 0 0 (MQ below (va_Qi Q (tm_B D g cI cJ s.heap.size) (tm_A g s.heap.size)) args s 0 0 (tm_A g s.heap.size)) 0 [(0, .ref (g 0)), (1, .int a1)] []
  refine gx_aload_n C dX3_isRoad_0 rfl 0 rfl ?_
  refine tm_get C hK 1 (by decide) q2301 rfl rfl dX3_isRoad_1 ?_
  refine gx_bipush (v := 16) C dX3_isRoad_4 (by decide) ?_
  refine gx_iload_n C dX3_isRoad_6 rfl 1 rfl ?_
  refine gx_iadd C dX3_isRoad_7 ?_
  obtain ⟨g8, h⟩ := h
  refine tm_ald0 C hK g8 dX3_isRoad_8 ?_
  refine gx_iconst (v := 3) C dX3_isRoad_9 (by decide) ?_
  refine gx_phii (t := (if (ms_r M 0 (16 + a1)) = 3 then 1 else 0)) (pc2 := 18) (lv2 := [(0, .ref (g 0)), (1, .int a1)]) (rest2 := []) (fun key => ?_) ?_
  · refine gx_icmp_ne (tgt := 17) C dX3_isRoad_10 (by decide) (fun z1 => ?_) (fun z1 => ?_)
    · refine gx_iconst (v := 0) C dX3_isRoad_17 (by decide) ?_
      exact gx_casti (if_neg z1) key
    · refine gx_iconst (v := 1) C dX3_isRoad_13 (by decide) ?_
      refine gx_goto (tgt := 18) C dX3_isRoad_14 (by decide) ?_
      exact gx_casti (if_pos z1) key
  exact tm_zret C hK (by repeat' (first | rfl | split)) h dX3_isRoad_18
/-! buildsRoad(IZ)I -/
abbrev rmX3_buildsRoad : Room := { frames := 1, cells := 0, slots := 0, locals := 23 }
theorem dmX3_buildsRoad : yX3_buildsRoad.cls ≠ "java/lang/invoke/MethodHandle" ∧ yX3_buildsRoad.cls ≠ "java/lang/invoke/VarHandle" ∧ (parseMethodDescriptor yX3_buildsRoad.desc).map (fun d => d.parameters.length) = some 2 := by decide +kernel
def tj_X3_buildsRoad_75 (M : MS) (a1 : Int32) (a2 : Int32) (a3 : Int32) (a4 : Int32) (k5 : MS → Int32 → Int32 → Int32 → Int32 → Prop) (Q : Int32 → MS → Prop) : Prop :=
  k5 M a1 a2 a3 (a4 + 1)
theorem tb_X3_buildsRoad_75 {l : Launch} {p : Program} {e : Env} {s : State} {m : MethodId} {args : Array Value} {below : List Frame} {meth : Method} {c : Code} {D : va_G} {g : Nat → Nat} {cI cJ : ClassId} (C : gx_C p s m args meth c cX3_buildsRoad 6 (some .int) RX3) (hK : va_K D gcl [(cI, .int), (cJ, .long)] s) {M : MS} {a1 : Int32} {a2 : Int32} {a3 : Int32} {a4 : Int32} {k5 : MS → Int32 → Int32 → Int32 → Int32 → Prop} {Q : Int32 → MS → Prop} (h : tj_X3_buildsRoad_75 M a1 a2 a3 a4 k5 Q) (hk5 : ∀ (M : MS) (a1 : Int32) (a2 : Int32) (a3 : Int32) (a4 : Int32), k5 M a1 a2 a3 a4 → gx_W p l e (headSpec (ws_ yX3_buildsRoad cX3_buildsRoad 6 (some .int)) rmX3_buildsRoad).room s m args below meth c 6 (tm_I D g cI cJ s M) 0 0 (MQ below (va_Qi Q (tm_B D g cI cJ s.heap.size) (tm_A g s.heap.size)) args s 0 0 (tm_A g s.heap.size)) 5 [(0, .ref (g 0)), (1, .int a1), (2, .int a2), (3, .int a3), (4, .int a4)] []) : gx_W p l e (headSpec (ws_ yX3_buildsRoad cX3_buildsRoad 6 (some .int)) rmX3_buildsRoad).room s m args below meth c 6 (tm_I D g cI cJ s M) 0 0 (MQ below (va_Qi Q (tm_B D g cI cJ s.heap.size) (tm_A g s.heap.size)) args s 0 0 (tm_A g s.heap.size)) 75 [(0, .ref (g 0)), (1, .int a1), (2, .int a2), (3, .int a3), (4, .int a4)] [] := by
  unfold tj_X3_buildsRoad_75 at h
  refine gx_iinc (v := a4 + 1) (k := 4) (lv' := [(4, .int (a4 + 1)), (0, .ref (g 0)), (1, .int a1), (2, .int a2), (3, .int a3)]) C dX3_buildsRoad_75 rfl rfl (by decide) rfl ?_
  refine gx_goto (tgt := 5) C dX3_buildsRoad_78 (by decide) ?_
  refine gx_sub [1, 2, 3, 4, 0] rfl ?_
  exact hk5 M a1 a2 a3 (a4 + 1) h
def tj_X3_buildsRoad_57 (M : MS) (a1 : Int32) (a2 : Int32) (a3 : Int32) (a4 : Int32) (s0 : Int32) (k5 : MS → Int32 → Int32 → Int32 → Int32 → Prop) (Q : Int32 → MS → Prop) : Prop :=
  ((s0 = 0 → tj_X3_buildsRoad_75 M a1 a2 a3 a4 k5 Q) ∧ (¬ (s0 = 0) → tw_X3_setsLand M a4 3 (fun r68 M68 => tj_X3_buildsRoad_75 M68 a1 a2 (a3 + 1) a4 k5 Q)))
theorem tb_X3_buildsRoad_57 {l : Launch} {p : Program} {e : Env} {s : State} {m : MethodId} {args : Array Value} {below : List Frame} {meth : Method} {c : Code} {D : va_G} {g : Nat → Nat} {cI cJ : ClassId} (C : gx_C p s m args meth c cX3_buildsRoad 6 (some .int) RX3) (hK : va_K D gcl [(cI, .int), (cJ, .long)] s) {M : MS} {a1 : Int32} {a2 : Int32} {a3 : Int32} {a4 : Int32} {s0 : Int32} {k5 : MS → Int32 → Int32 → Int32 → Int32 → Prop} {Q : Int32 → MS → Prop} (h : tj_X3_buildsRoad_57 M a1 a2 a3 a4 s0 k5 Q) (hk5 : ∀ (M : MS) (a1 : Int32) (a2 : Int32) (a3 : Int32) (a4 : Int32), k5 M a1 a2 a3 a4 → gx_W p l e (headSpec (ws_ yX3_buildsRoad cX3_buildsRoad 6 (some .int)) rmX3_buildsRoad).room s m args below meth c 6 (tm_I D g cI cJ s M) 0 0 (MQ below (va_Qi Q (tm_B D g cI cJ s.heap.size) (tm_A g s.heap.size)) args s 0 0 (tm_A g s.heap.size)) 5 [(0, .ref (g 0)), (1, .int a1), (2, .int a2), (3, .int a3), (4, .int a4)] []) : gx_W p l e (headSpec (ws_ yX3_buildsRoad cX3_buildsRoad 6 (some .int)) rmX3_buildsRoad).room s m args below meth c 6 (tm_I D g cI cJ s M) 0 0 (MQ below (va_Qi Q (tm_B D g cI cJ s.heap.size) (tm_A g s.heap.size)) args s 0 0 (tm_A g s.heap.size)) 57 [(0, .ref (g 0)), (1, .int a1), (2, .int a2), (3, .int a3), (4, .int a4)] [.int s0] := by
  unfold tj_X3_buildsRoad_57 at h
  refine gx_istore (lv' := [(5, .int s0), (0, .ref (g 0)), (1, .int a1), (2, .int a2), (3, .int a3), (4, .int a4)]) C dX3_buildsRoad_57 (by decide) rfl ?_
  refine gx_iload C dX3_buildsRoad_59 0 rfl ?_
  refine gx_if_eq (tgt := 75) C dX3_buildsRoad_61 (by decide) (fun z => ?_) (fun z => ?_)
  · replace h := h.1 z
    refine gx_sub [1, 2, 3, 4, 5] rfl ?_
    exact tb_X3_buildsRoad_75 C hK h hk5
  · replace h := h.2 z
    refine gx_aload_n C dX3_buildsRoad_64 rfl 1 rfl ?_
    refine gx_iload C dX3_buildsRoad_65 5 rfl ?_
    refine gx_iconst (v := 3) C dX3_buildsRoad_67 (by decide) ?_
    refine tm_calli (rest := []) C hK (fun sz => tk_X3_setsLand h) (cwV 2 C.t (lw_V q2375 q2377 qs48 q130 q2378) rfl rfl rfl ⟨rfl, dmX3_setsLand⟩ ⟨Nat.le_of_ble_eq_true rfl, Nat.le_of_ble_eq_true rfl⟩) rfl rfl (Nat.le_of_ble_eq_true rfl) dX3_buildsRoad_68 (fun r68 M68 h => ?_)
    refine gx_pop C dX3_buildsRoad_71 rfl ?_
    refine gx_iinc (v := a3 + 1) (k := 4) (lv' := [(3, .int (a3 + 1)), (5, .int s0), (0, .ref (g 0)), (1, .int a1), (2, .int a2), (4, .int a4)]) C dX3_buildsRoad_72 rfl rfl (by decide) rfl ?_
    refine gx_sub [2, 3, 4, 0, 5] rfl ?_
    exact tb_X3_buildsRoad_75 C hK h hk5
def tj_X3_buildsRoad_56 (M : MS) (a1 : Int32) (a2 : Int32) (a3 : Int32) (a4 : Int32) (k5 : MS → Int32 → Int32 → Int32 → Int32 → Prop) (Q : Int32 → MS → Prop) : Prop :=
  tj_X3_buildsRoad_57 M a1 a2 a3 a4 0 k5 Q
theorem tb_X3_buildsRoad_56 {l : Launch} {p : Program} {e : Env} {s : State} {m : MethodId} {args : Array Value} {below : List Frame} {meth : Method} {c : Code} {D : va_G} {g : Nat → Nat} {cI cJ : ClassId} (C : gx_C p s m args meth c cX3_buildsRoad 6 (some .int) RX3) (hK : va_K D gcl [(cI, .int), (cJ, .long)] s) {M : MS} {a1 : Int32} {a2 : Int32} {a3 : Int32} {a4 : Int32} {k5 : MS → Int32 → Int32 → Int32 → Int32 → Prop} {Q : Int32 → MS → Prop} (h : tj_X3_buildsRoad_56 M a1 a2 a3 a4 k5 Q) (hk5 : ∀ (M : MS) (a1 : Int32) (a2 : Int32) (a3 : Int32) (a4 : Int32), k5 M a1 a2 a3 a4 → gx_W p l e (headSpec (ws_ yX3_buildsRoad cX3_buildsRoad 6 (some .int)) rmX3_buildsRoad).room s m args below meth c 6 (tm_I D g cI cJ s M) 0 0 (MQ below (va_Qi Q (tm_B D g cI cJ s.heap.size) (tm_A g s.heap.size)) args s 0 0 (tm_A g s.heap.size)) 5 [(0, .ref (g 0)), (1, .int a1), (2, .int a2), (3, .int a3), (4, .int a4)] []) : gx_W p l e (headSpec (ws_ yX3_buildsRoad cX3_buildsRoad 6 (some .int)) rmX3_buildsRoad).room s m args below meth c 6 (tm_I D g cI cJ s M) 0 0 (MQ below (va_Qi Q (tm_B D g cI cJ s.heap.size) (tm_A g s.heap.size)) args s 0 0 (tm_A g s.heap.size)) 56 [(0, .ref (g 0)), (1, .int a1), (2, .int a2), (3, .int a3), (4, .int a4)] [] := by
  unfold tj_X3_buildsRoad_56 at h
  refine gx_iconst (v := 0) C dX3_buildsRoad_56 (by decide) ?_
  exact tb_X3_buildsRoad_57 C hK h hk5
def tj_X3_buildsRoad_29 (M : MS) (a1 : Int32) (a2 : Int32) (a3 : Int32) (a4 : Int32) (s0 : Int32) (k5 : MS → Int32 → Int32 → Int32 → Int32 → Prop) (Q : Int32 → MS → Prop) : Prop :=
  ((s0 = a1 → tw_X3_boxAt M a4 (fun r36 M36 => ((r36 = (-1) → tw_X3_isRoad M36 a4 (fun r46 M46 => ((r46 = 0 → tj_X3_buildsRoad_57 M46 a1 a2 a3 a4 1 k5 Q) ∧ (¬ (r46 = 0) → tj_X3_buildsRoad_56 M46 a1 a2 a3 a4 k5 Q)))) ∧ (¬ (r36 = (-1)) → tj_X3_buildsRoad_56 M36 a1 a2 a3 a4 k5 Q)))) ∧ (¬ (s0 = a1) → tj_X3_buildsRoad_56 M a1 a2 a3 a4 k5 Q))
theorem tb_X3_buildsRoad_29 {l : Launch} {p : Program} {e : Env} {s : State} {m : MethodId} {args : Array Value} {below : List Frame} {meth : Method} {c : Code} {D : va_G} {g : Nat → Nat} {cI cJ : ClassId} (C : gx_C p s m args meth c cX3_buildsRoad 6 (some .int) RX3) (hK : va_K D gcl [(cI, .int), (cJ, .long)] s) {M : MS} {a1 : Int32} {a2 : Int32} {a3 : Int32} {a4 : Int32} {s0 : Int32} {k5 : MS → Int32 → Int32 → Int32 → Int32 → Prop} {Q : Int32 → MS → Prop} (h : tj_X3_buildsRoad_29 M a1 a2 a3 a4 s0 k5 Q) (hk5 : ∀ (M : MS) (a1 : Int32) (a2 : Int32) (a3 : Int32) (a4 : Int32), k5 M a1 a2 a3 a4 → gx_W p l e (headSpec (ws_ yX3_buildsRoad cX3_buildsRoad 6 (some .int)) rmX3_buildsRoad).room s m args below meth c 6 (tm_I D g cI cJ s M) 0 0 (MQ below (va_Qi Q (tm_B D g cI cJ s.heap.size) (tm_A g s.heap.size)) args s 0 0 (tm_A g s.heap.size)) 5 [(0, .ref (g 0)), (1, .int a1), (2, .int a2), (3, .int a3), (4, .int a4)] []) : gx_W p l e (headSpec (ws_ yX3_buildsRoad cX3_buildsRoad 6 (some .int)) rmX3_buildsRoad).room s m args below meth c 6 (tm_I D g cI cJ s M) 0 0 (MQ below (va_Qi Q (tm_B D g cI cJ s.heap.size) (tm_A g s.heap.size)) args s 0 0 (tm_A g s.heap.size)) 29 [(0, .ref (g 0)), (1, .int a1), (2, .int a2), (3, .int a3), (4, .int a4)] [.int s0] := by
  unfold tj_X3_buildsRoad_29 at h
  refine gx_iload_n C dX3_buildsRoad_29 rfl 1 rfl ?_
  refine gx_icmp_ne (tgt := 56) C dX3_buildsRoad_30 (by decide) (fun z => ?_) (fun z => ?_)
  · replace h := h.2 z
    exact tb_X3_buildsRoad_56 C hK h hk5
  · replace h := h.1 z
    refine gx_aload_n C dX3_buildsRoad_33 rfl 0 rfl ?_
    refine gx_iload C dX3_buildsRoad_34 4 rfl ?_
    refine tm_calli (rest := []) C hK (fun sz => tk_X3_boxAt h) (cwV 1 C.t (lw_V q2367 q2369 qs46 q130 q2370) rfl rfl rfl ⟨rfl, dmX3_boxAt⟩ ⟨Nat.le_of_ble_eq_true rfl, Nat.le_of_ble_eq_true rfl⟩) rfl rfl (Nat.le_of_ble_eq_true rfl) dX3_buildsRoad_36 (fun r36 M36 h => ?_)
    refine gx_iconst (v := (-1)) C dX3_buildsRoad_39 (by decide) ?_
    refine gx_icmp_ne (tgt := 56) C dX3_buildsRoad_40 (by decide) (fun z => ?_) (fun z => ?_)
    · replace h := h.2 z
      exact tb_X3_buildsRoad_56 C hK h hk5
    · replace h := h.1 z
      refine gx_aload_n C dX3_buildsRoad_43 rfl 0 rfl ?_
      refine gx_iload C dX3_buildsRoad_44 4 rfl ?_
      refine tm_calli (rest := []) C hK (fun sz => tk_X3_isRoad h) (cwV 1 C.t (lw_V q2390 q2392 qs50 q130 q2393) rfl rfl rfl ⟨rfl, dmX3_isRoad⟩ ⟨Nat.le_of_ble_eq_true rfl, Nat.le_of_ble_eq_true rfl⟩) rfl rfl (Nat.le_of_ble_eq_true rfl) dX3_buildsRoad_46 (fun r46 M46 h => ?_)
      refine gx_if_ne (tgt := 56) C dX3_buildsRoad_49 (by decide) (fun z => ?_) (fun z => ?_)
      · replace h := h.2 z
        exact tb_X3_buildsRoad_56 C hK h hk5
      · replace h := h.1 z
        refine gx_iconst (v := 1) C dX3_buildsRoad_52 (by decide) ?_
        refine gx_goto (tgt := 57) C dX3_buildsRoad_53 (by decide) ?_
        exact tb_X3_buildsRoad_57 C hK h hk5
def tj_X3_buildsRoad_5 (M : MS) (a1 : Int32) (a2 : Int32) (a3 : Int32) (a4 : Int32) (k5 : MS → Int32 → Int32 → Int32 → Int32 → Prop) (Q : Int32 → MS → Prop) : Prop :=
  ((64 ≤ a4 → Q a3 M) ∧ (¬ (64 ≤ a4) → ((a2 = 0 → tj_X3_buildsRoad_29 M a1 a2 a3 a4 (a4 - a4 / 8 * 8) k5 Q) ∧ (¬ (a2 = 0) → tj_X3_buildsRoad_29 M a1 a2 a3 a4 (a4 / 8) k5 Q))))
theorem tb_X3_buildsRoad_5 {l : Launch} {p : Program} {e : Env} {s : State} {m : MethodId} {args : Array Value} {below : List Frame} {meth : Method} {c : Code} {D : va_G} {g : Nat → Nat} {cI cJ : ClassId} (C : gx_C p s m args meth c cX3_buildsRoad 6 (some .int) RX3) (hK : va_K D gcl [(cI, .int), (cJ, .long)] s) {M : MS} {a1 : Int32} {a2 : Int32} {a3 : Int32} {a4 : Int32} {k5 : MS → Int32 → Int32 → Int32 → Int32 → Prop} {Q : Int32 → MS → Prop} (h : tj_X3_buildsRoad_5 M a1 a2 a3 a4 k5 Q) (hk5 : ∀ (M : MS) (a1 : Int32) (a2 : Int32) (a3 : Int32) (a4 : Int32), k5 M a1 a2 a3 a4 → gx_W p l e (headSpec (ws_ yX3_buildsRoad cX3_buildsRoad 6 (some .int)) rmX3_buildsRoad).room s m args below meth c 6 (tm_I D g cI cJ s M) 0 0 (MQ below (va_Qi Q (tm_B D g cI cJ s.heap.size) (tm_A g s.heap.size)) args s 0 0 (tm_A g s.heap.size)) 5 [(0, .ref (g 0)), (1, .int a1), (2, .int a2), (3, .int a3), (4, .int a4)] []) : gx_W p l e (headSpec (ws_ yX3_buildsRoad cX3_buildsRoad 6 (some .int)) rmX3_buildsRoad).room s m args below meth c 6 (tm_I D g cI cJ s M) 0 0 (MQ below (va_Qi Q (tm_B D g cI cJ s.heap.size) (tm_A g s.heap.size)) args s 0 0 (tm_A g s.heap.size)) 5 [(0, .ref (g 0)), (1, .int a1), (2, .int a2), (3, .int a3), (4, .int a4)] [] := by
  unfold tj_X3_buildsRoad_5 at h
  refine gx_iload C dX3_buildsRoad_5 4 rfl ?_
  refine gx_bipush (v := 64) C dX3_buildsRoad_7 (by decide) ?_
  refine gx_icmp_ge (tgt := 81) C dX3_buildsRoad_9 (by decide) (fun z => ?_) (fun z => ?_)
  · replace h := h.1 z
    refine gx_iload_n C dX3_buildsRoad_81 rfl 3 rfl ?_
    exact tm_iret C hK h dX3_buildsRoad_82
  · replace h := h.2 z
    refine gx_iload_n C dX3_buildsRoad_12 rfl 2 rfl ?_
    refine gx_if_eq (tgt := 24) C dX3_buildsRoad_13 (by decide) (fun z => ?_) (fun z => ?_)
    · replace h := h.1 z
      refine gx_iload C dX3_buildsRoad_24 4 rfl ?_
      refine gx_bipush (v := 8) C dX3_buildsRoad_26 (by decide) ?_
      refine gx_irem C dX3_buildsRoad_28 (by decide) ?_
      exact tb_X3_buildsRoad_29 C hK h hk5
    · replace h := h.2 z
      refine gx_iload C dX3_buildsRoad_16 4 rfl ?_
      refine gx_bipush (v := 8) C dX3_buildsRoad_18 (by decide) ?_
      refine gx_idiv C dX3_buildsRoad_20 (by decide) ?_
      refine gx_goto (tgt := 29) C dX3_buildsRoad_21 (by decide) ?_
      exact tb_X3_buildsRoad_29 C hK h hk5
def tl_X3_buildsRoad_5 (Q : Int32 → MS → Prop) : Nat → MS → Int32 → Int32 → Int32 → Int32 → Prop
  | 0, _, _, _, _, _ => False
  | n + 1, M, a1, a2, a3, a4 => tj_X3_buildsRoad_5 M a1 a2 a3 a4 (fun M a1 a2 a3 a4 => tl_X3_buildsRoad_5 Q n M a1 a2 a3 a4) Q
theorem te_X3_buildsRoad_5 {l : Launch} {p : Program} {e : Env} {s : State} {m : MethodId} {args : Array Value} {below : List Frame} {meth : Method} {c : Code} {D : va_G} {g : Nat → Nat} {cI cJ : ClassId} (C : gx_C p s m args meth c cX3_buildsRoad 6 (some .int) RX3) (hK : va_K D gcl [(cI, .int), (cJ, .long)] s) {Q : Int32 → MS → Prop}  (n : Nat) : ∀ (M : MS) (a1 : Int32) (a2 : Int32) (a3 : Int32) (a4 : Int32), tl_X3_buildsRoad_5 Q n M a1 a2 a3 a4 → gx_W p l e (headSpec (ws_ yX3_buildsRoad cX3_buildsRoad 6 (some .int)) rmX3_buildsRoad).room s m args below meth c 6 (tm_I D g cI cJ s M) 0 0 (MQ below (va_Qi Q (tm_B D g cI cJ s.heap.size) (tm_A g s.heap.size)) args s 0 0 (tm_A g s.heap.size)) 5 [(0, .ref (g 0)), (1, .int a1), (2, .int a2), (3, .int a3), (4, .int a4)] [] := by
  induction n with
  | zero => intro M a1 a2 a3 a4 h; exact False.elim h
  | succ n ih => intro M a1 a2 a3 a4 h; exact tb_X3_buildsRoad_5 C hK (show tj_X3_buildsRoad_5 M a1 a2 a3 a4 (fun M a1 a2 a3 a4 => tl_X3_buildsRoad_5 Q n M a1 a2 a3 a4) Q from h) (fun M a1 a2 a3 a4 h => ih M a1 a2 a3 a4 h)
def tw_X3_buildsRoad (M : MS) (a1 : Int32) (a2 : Int32) (Q : Int32 → MS → Prop) : Prop :=
  ∃ n : Nat, tl_X3_buildsRoad_5 Q n M a1 a2 0 0
theorem tk_X3_buildsRoad {l : Launch} {D : va_G} {g : Nat → Nat} {cI cJ : ClassId} {sz : Nat} {M : MS} {a1 : Int32} {a2 : Int32} {Q : Int32 → MS → Prop} (h : tw_X3_buildsRoad M a1 a2 Q) : tm_Met l yX3_buildsRoad cX3_buildsRoad 6 (some .int) rmX3_buildsRoad [.int a1, .int a2] D g cI cJ sz M (va_Qi Q (tm_B D g cI cJ sz) (tm_A g sz)) := by
  refine tm_entry (by decide) (Nat.le_of_ble_eq_true rfl) (fun p e s m args below meth c hsz C hK => ?_)
  subst hsz
  unfold tw_X3_buildsRoad at h
  show gx_W p l e (headSpec (ws_ yX3_buildsRoad cX3_buildsRoad 6 (some .int)) rmX3_buildsRoad).room s m args below meth c 6 (tm_I D g cI cJ s M) 0 0 (MQ below (va_Qi Q (tm_B D g cI cJ s.heap.size) (tm_A g s.heap.size)) args s 0 0 (tm_A g s.heap.size)) 0 [(0, .ref (g 0)), (1, .int a1), (2, .int a2)] []
  refine gx_iconst (v := 0) C dX3_buildsRoad_0 (by decide) ?_
  refine gx_istore_n (lv' := [(3, .int 0), (0, .ref (g 0)), (1, .int a1), (2, .int a2)]) C dX3_buildsRoad_1 rfl (by decide) rfl ?_
  refine gx_iconst (v := 0) C dX3_buildsRoad_2 (by decide) ?_
  refine gx_istore (lv' := [(4, .int 0), (3, .int 0), (0, .ref (g 0)), (1, .int a1), (2, .int a2)]) C dX3_buildsRoad_3 (by decide) rfl ?_
  refine gx_sub [2, 3, 4, 1, 0] rfl ?_
  obtain ⟨n, h⟩ := h
  exact te_X3_buildsRoad_5 C hK n M a1 a2 0 0 h
/-! buildRoad(IZ)I -/
abbrev rmX3_buildRoad : Room := { frames := 2, cells := 0, slots := 0, locals := 48 }
theorem dmX3_buildRoad : yX3_buildRoad.cls ≠ "java/lang/invoke/MethodHandle" ∧ yX3_buildRoad.cls ≠ "java/lang/invoke/VarHandle" ∧ (parseMethodDescriptor yX3_buildRoad.desc).map (fun d => d.parameters.length) = some 2 := by decide +kernel
def tw_X3_buildRoad (M : MS) (a1 : Int32) (a2 : Int32) (Q : Int32 → MS → Prop) : Prop :=
  pw_X3_isLine a1 (fun r2 => (∀ M13 : MS, M13 = ms_s M 0 (if r2 = 0 then 1 else 0) → (((M13.1 0) ≤ 0 → tw_X3_record M13 (fun M26 => tw_X3_buildsRoad M26 a1 a2 (fun r32 M32 => Q r32 M32))) ∧ (¬ (M13.1 0) ≤ 0 → Q 0 M13))))
theorem tk_X3_buildRoad {l : Launch} {D : va_G} {g : Nat → Nat} {cI cJ : ClassId} {sz : Nat} {M : MS} {a1 : Int32} {a2 : Int32} {Q : Int32 → MS → Prop} (h : tw_X3_buildRoad M a1 a2 Q) : tm_Met l yX3_buildRoad cX3_buildRoad 3 (some .int) rmX3_buildRoad [.int a1, .int a2] D g cI cJ sz M (va_Qi Q (tm_B D g cI cJ sz) (tm_A g sz)) := by
  refine tm_entry (by decide) (Nat.le_of_ble_eq_true rfl) (fun p e s m args below meth c hsz C hK => ?_)
  subst hsz
  unfold tw_X3_buildRoad at h
  show gx_W p l e (headSpec (ws_ yX3_buildRoad cX3_buildRoad 3 (some .int)) rmX3_buildRoad).room s m args below meth c 3 (tm_I D g cI cJ s M) 0 0 (MQ below (va_Qi Q (tm_B D g cI cJ s.heap.size) (tm_A g s.heap.size)) args s 0 0 (tm_A g s.heap.size)) 0 [(0, .ref (g 0)), (1, .int a1), (2, .int a2)] []
  refine gx_aload_n C dX3_buildRoad_0 rfl 0 rfl ?_
  refine gx_iload_n C dX3_buildRoad_1 rfl 1 rfl ?_
  refine gx_calls_i (rest := [.ref (g 0)]) C (pk_X3_isLine h) (va_cwS 1 C.t (lw_S q2383 q2384 q130 q2385) rfl rfl rfl dmX3_isLine ⟨Nat.le_of_ble_eq_true rfl, Nat.le_of_ble_eq_true rfl⟩) rfl rfl (Nat.le_of_ble_eq_true rfl) ⟨Nat.zero_le _, Nat.zero_le _⟩ dX3_buildRoad_2 (fun r2 h => ?_)
  refine gx_phii (t := (if r2 = 0 then 1 else 0)) (pc2 := 13) (lv2 := [(0, .ref (g 0)), (1, .int a1), (2, .int a2)]) (rest2 := [.ref (g 0)]) (fun key => ?_) ?_
  · refine gx_if_eq (tgt := 12) C dX3_buildRoad_5 (by decide) (fun z1 => ?_) (fun z1 => ?_)
    · refine gx_iconst (v := 1) C dX3_buildRoad_12 (by decide) ?_
      exact gx_casti (if_pos z1) key
    · refine gx_iconst (v := 0) C dX3_buildRoad_8 (by decide) ?_
      refine gx_goto (tgt := 13) C dX3_buildRoad_9 (by decide) ?_
      exact gx_casti (if_neg z1) key
  refine tm_put0 C hK q2300 dX3_buildRoad_13 (fun M13 e_M13 => ?_)
  replace h := h M13 e_M13
  refine gx_aload_n C dX3_buildRoad_16 rfl 0 rfl ?_
  refine tm_get C hK 0 (by decide) q2300 rfl rfl dX3_buildRoad_17 ?_
  refine gx_if_le (tgt := 25) C dX3_buildRoad_20 (by decide) (fun z => ?_) (fun z => ?_)
  · replace h := h.1 z
    refine gx_aload_n C dX3_buildRoad_25 rfl 0 rfl ?_
    refine tm_callv (rest := []) C hK (fun sz => tk_X3_record h) (cwV 0 C.t (lw_V q2371 q2373 qs47 q130 q2374) rfl rfl rfl ⟨rfl, dmX3_record⟩ ⟨Nat.le_of_ble_eq_true rfl, Nat.le_of_ble_eq_true rfl⟩) rfl rfl (Nat.le_of_ble_eq_true rfl) dX3_buildRoad_26 (fun M26 h => ?_)
    refine gx_aload_n C dX3_buildRoad_29 rfl 0 rfl ?_
    refine gx_iload_n C dX3_buildRoad_30 rfl 1 rfl ?_
    refine gx_iload_n C dX3_buildRoad_31 rfl 2 rfl ?_
    refine tm_calli (rest := []) C hK (fun sz => tk_X3_buildsRoad h) (cwV 2 C.t (lw_V q2386 q2388 qs49 q130 q2389) rfl rfl rfl ⟨rfl, dmX3_buildsRoad⟩ ⟨Nat.le_of_ble_eq_true rfl, Nat.le_of_ble_eq_true rfl⟩) rfl rfl (Nat.le_of_ble_eq_true rfl) dX3_buildRoad_32 (fun r32 M32 h => ?_)
    exact tm_iret C hK h dX3_buildRoad_35
  · replace h := h.2 z
    refine gx_iconst (v := 0) C dX3_buildRoad_23 (by decide) ?_
    exact tm_iret C hK h dX3_buildRoad_24
/-! setVoles(II)I -/
abbrev rmX3_setVoles : Room := { frames := 2, cells := 0, slots := 0, locals := 42 }
theorem dmX3_setVoles : yX3_setVoles.cls ≠ "java/lang/invoke/MethodHandle" ∧ yX3_setVoles.cls ≠ "java/lang/invoke/VarHandle" ∧ (parseMethodDescriptor yX3_setVoles.desc).map (fun d => d.parameters.length) = some 2 := by decide +kernel
def tj_X3_setVoles_40 (M : MS) (a1 : Int32) (a2 : Int32) (s1 : Int32) (Q : Int32 → MS → Prop) : Prop :=
  (∀ M40 : MS, M40 = ms_s M 0 s1 → (((M40.1 0) ≤ 0 → tw_X3_record M40 (fun M53 => (vp_in (80 + a1) 754 ∧ (vp_in (80 + a1) 754 ∧ ∀ M75 : MS, M75 = ms_a M53 0 (80 + a1) a2 → Q (ms_r M53 0 (80 + a1)) M75)))) ∧ (¬ (M40.1 0) ≤ 0 → Q 0 M40)))
theorem tb_X3_setVoles_40 {l : Launch} {p : Program} {e : Env} {s : State} {m : MethodId} {args : Array Value} {below : List Frame} {meth : Method} {c : Code} {D : va_G} {g : Nat → Nat} {cI cJ : ClassId} (C : gx_C p s m args meth c cX3_setVoles 4 (some .int) RX3) (hK : va_K D gcl [(cI, .int), (cJ, .long)] s) {M : MS} {a1 : Int32} {a2 : Int32} {s1 : Int32} {Q : Int32 → MS → Prop} (h : tj_X3_setVoles_40 M a1 a2 s1 Q)  : gx_W p l e (headSpec (ws_ yX3_setVoles cX3_setVoles 4 (some .int)) rmX3_setVoles).room s m args below meth c 4 (tm_I D g cI cJ s M) 0 0 (MQ below (va_Qi Q (tm_B D g cI cJ s.heap.size) (tm_A g s.heap.size)) args s 0 0 (tm_A g s.heap.size)) 40 [(0, .ref (g 0)), (1, .int a1), (2, .int a2)] [.int s1, .ref (g 0)] := by
  unfold tj_X3_setVoles_40 at h
  refine tm_put0 C hK q2300 dX3_setVoles_40 (fun M40 e_M40 => ?_)
  replace h := h M40 e_M40
  refine gx_aload_n C dX3_setVoles_43 rfl 0 rfl ?_
  refine tm_get C hK 0 (by decide) q2300 rfl rfl dX3_setVoles_44 ?_
  refine gx_if_le (tgt := 52) C dX3_setVoles_47 (by decide) (fun z => ?_) (fun z => ?_)
  · replace h := h.1 z
    refine gx_aload_n C dX3_setVoles_52 rfl 0 rfl ?_
    refine tm_callv (rest := []) C hK (fun sz => tk_X3_record h) (cwV 0 C.t (lw_V q2371 q2373 qs47 q130 q2374) rfl rfl rfl ⟨rfl, dmX3_record⟩ ⟨Nat.le_of_ble_eq_true rfl, Nat.le_of_ble_eq_true rfl⟩) rfl rfl (Nat.le_of_ble_eq_true rfl) dX3_setVoles_53 (fun M53 h => ?_)
    refine gx_aload_n C dX3_setVoles_56 rfl 0 rfl ?_
    refine tm_get C hK 1 (by decide) q2301 rfl rfl dX3_setVoles_57 ?_
    refine gx_bipush (v := 80) C dX3_setVoles_60 (by decide) ?_
    refine gx_iload_n C dX3_setVoles_62 rfl 1 rfl ?_
    refine gx_iadd C dX3_setVoles_63 ?_
    obtain ⟨g64, h⟩ := h
    refine tm_ald0 C hK g64 dX3_setVoles_64 ?_
    refine gx_istore_n (lv' := [(3, .int (ms_r M53 0 (80 + a1))), (0, .ref (g 0)), (1, .int a1), (2, .int a2)]) C dX3_setVoles_65 rfl (by decide) rfl ?_
    refine gx_aload_n C dX3_setVoles_66 rfl 1 rfl ?_
    refine tm_get C hK 1 (by decide) q2301 rfl rfl dX3_setVoles_67 ?_
    refine gx_bipush (v := 80) C dX3_setVoles_70 (by decide) ?_
    refine gx_iload_n C dX3_setVoles_72 rfl 2 rfl ?_
    refine gx_iadd C dX3_setVoles_73 ?_
    refine gx_iload_n C dX3_setVoles_74 rfl 3 rfl ?_
    obtain ⟨g75, h⟩ := h
    refine tm_ast0 C hK g75 dX3_setVoles_75 (fun M75 e_M75 => ?_)
    replace h := h M75 e_M75
    refine gx_iload_n C dX3_setVoles_76 rfl 0 rfl ?_
    exact tm_iret C hK h dX3_setVoles_77
  · replace h := h.2 z
    refine gx_iconst (v := 0) C dX3_setVoles_50 (by decide) ?_
    exact tm_iret C hK h dX3_setVoles_51
def tw_X3_setVoles (M : MS) (a1 : Int32) (a2 : Int32) (Q : Int32 → MS → Prop) : Prop :=
  pw_X3_isSquare a1 (fun r2 => ((r2 = 0 → tj_X3_setVoles_40 M a1 a2 1 Q) ∧ (¬ (r2 = 0) → pw_X3_within a2 0 160 (fun r17 => ((r17 = 0 → tj_X3_setVoles_40 M a1 a2 2 Q) ∧ (¬ (r17 = 0) → tw_X3_isRoad M a1 (fun r29 M29 => tj_X3_setVoles_40 M29 a1 a2 ((if r29 = 0 then 0 else 3)) Q)))))))
theorem tk_X3_setVoles {l : Launch} {D : va_G} {g : Nat → Nat} {cI cJ : ClassId} {sz : Nat} {M : MS} {a1 : Int32} {a2 : Int32} {Q : Int32 → MS → Prop} (h : tw_X3_setVoles M a1 a2 Q) : tm_Met l yX3_setVoles cX3_setVoles 4 (some .int) rmX3_setVoles [.int a1, .int a2] D g cI cJ sz M (va_Qi Q (tm_B D g cI cJ sz) (tm_A g sz)) := by
  refine tm_entry (by decide) (Nat.le_of_ble_eq_true rfl) (fun p e s m args below meth c hsz C hK => ?_)
  subst hsz
  unfold tw_X3_setVoles at h
  show gx_W p l e (headSpec (ws_ yX3_setVoles cX3_setVoles 4 (some .int)) rmX3_setVoles).room s m args below meth c 4 (tm_I D g cI cJ s M) 0 0 (MQ below (va_Qi Q (tm_B D g cI cJ s.heap.size) (tm_A g s.heap.size)) args s 0 0 (tm_A g s.heap.size)) 0 [(0, .ref (g 0)), (1, .int a1), (2, .int a2)] []
  refine gx_aload_n C dX3_setVoles_0 rfl 0 rfl ?_
  refine gx_iload_n C dX3_setVoles_1 rfl 1 rfl ?_
  refine gx_calls_i (rest := [.ref (g 0)]) C (pk_X3_isSquare h) (va_cwS 1 C.t (lw_S q2357 q2358 q130 q2359) rfl rfl rfl dmX3_isSquare ⟨Nat.le_of_ble_eq_true rfl, Nat.le_of_ble_eq_true rfl⟩) rfl rfl (Nat.le_of_ble_eq_true rfl) ⟨Nat.zero_le _, Nat.zero_le _⟩ dX3_setVoles_2 (fun r2 h => ?_)
  refine gx_if_ne (tgt := 12) C dX3_setVoles_5 (by decide) (fun z => ?_) (fun z => ?_)
  · replace h := h.2 z
    refine gx_iload_n C dX3_setVoles_12 rfl 2 rfl ?_
    refine gx_iconst (v := 0) C dX3_setVoles_13 (by decide) ?_
    refine gx_sipush (v := 160) C dX3_setVoles_14 (by decide) ?_
    refine gx_calls_i (rest := [.ref (g 0)]) C (pk_X3_within h) (va_cwS 3 C.t (lw_S q2360 q2361 q130 q2362) rfl rfl rfl dmX3_within ⟨Nat.le_of_ble_eq_true rfl, Nat.le_of_ble_eq_true rfl⟩) rfl rfl (Nat.le_of_ble_eq_true rfl) ⟨Nat.zero_le _, Nat.zero_le _⟩ dX3_setVoles_17 (fun r17 h => ?_)
    refine gx_if_ne (tgt := 27) C dX3_setVoles_20 (by decide) (fun z => ?_) (fun z => ?_)
    · replace h := h.2 z
      refine gx_aload_n C dX3_setVoles_27 rfl 0 rfl ?_
      refine gx_iload_n C dX3_setVoles_28 rfl 1 rfl ?_
      refine tm_calli (rest := [.ref (g 0)]) C hK (fun sz => tk_X3_isRoad h) (cwV 1 C.t (lw_V q2390 q2392 qs50 q130 q2393) rfl rfl rfl ⟨rfl, dmX3_isRoad⟩ ⟨Nat.le_of_ble_eq_true rfl, Nat.le_of_ble_eq_true rfl⟩) rfl rfl (Nat.le_of_ble_eq_true rfl) dX3_setVoles_29 (fun r29 M29 h => ?_)
      refine gx_phii (t := (if r29 = 0 then 0 else 3)) (pc2 := 40) (lv2 := [(0, .ref (g 0)), (1, .int a1), (2, .int a2)]) (rest2 := [.ref (g 0)]) (fun key => ?_) ?_
      · refine gx_if_eq (tgt := 39) C dX3_setVoles_32 (by decide) (fun z1 => ?_) (fun z1 => ?_)
        · refine gx_iconst (v := 0) C dX3_setVoles_39 (by decide) ?_
          exact gx_casti (if_pos z1) key
        · refine gx_iconst (v := 3) C dX3_setVoles_35 (by decide) ?_
          refine gx_goto (tgt := 40) C dX3_setVoles_36 (by decide) ?_
          exact gx_casti (if_neg z1) key
      exact tb_X3_setVoles_40 C hK h
    · replace h := h.1 z
      refine gx_iconst (v := 2) C dX3_setVoles_23 (by decide) ?_
      refine gx_goto (tgt := 40) C dX3_setVoles_24 (by decide) ?_
      exact tb_X3_setVoles_40 C hK h
  · replace h := h.1 z
    refine gx_iconst (v := 1) C dX3_setVoles_8 (by decide) ?_
    refine gx_goto (tgt := 40) C dX3_setVoles_9 (by decide) ?_
    exact tb_X3_setVoles_40 C hK h
/-! setChances(I)I -/
abbrev rmX3_setChances : Room := { frames := 1, cells := 0, slots := 0, locals := 22 }
theorem dmX3_setChances : yX3_setChances.cls ≠ "java/lang/invoke/MethodHandle" ∧ yX3_setChances.cls ≠ "java/lang/invoke/VarHandle" ∧ (parseMethodDescriptor yX3_setChances.desc).map (fun d => d.parameters.length) = some 1 := by decide +kernel
def tw_X3_setChances (M : MS) (a1 : Int32) (Q : Int32 → MS → Prop) : Prop :=
  pw_X3_within a1 0 65536 (fun r5 => (∀ M16 : MS, M16 = ms_s M 0 (if r5 = 0 then 1 else 0) → (((M16.1 0) ≤ 0 → tw_X3_record M16 (fun M29 => (vp_in 1 754 ∧ (vp_in 1 754 ∧ ∀ M45 : MS, M45 = ms_a M29 0 1 a1 → Q (ms_r M29 0 1) M45)))) ∧ (¬ (M16.1 0) ≤ 0 → Q 0 M16))))
theorem tk_X3_setChances {l : Launch} {D : va_G} {g : Nat → Nat} {cI cJ : ClassId} {sz : Nat} {M : MS} {a1 : Int32} {Q : Int32 → MS → Prop} (h : tw_X3_setChances M a1 Q) : tm_Met l yX3_setChances cX3_setChances 3 (some .int) rmX3_setChances [.int a1] D g cI cJ sz M (va_Qi Q (tm_B D g cI cJ sz) (tm_A g sz)) := by
  refine tm_entry (by decide) (Nat.le_of_ble_eq_true rfl) (fun p e s m args below meth c hsz C hK => ?_)
  subst hsz
  unfold tw_X3_setChances at h
  show gx_W p l e (headSpec (ws_ yX3_setChances cX3_setChances 3 (some .int)) rmX3_setChances).room s m args below meth c 3 (tm_I D g cI cJ s M) 0 0 (MQ below (va_Qi Q (tm_B D g cI cJ s.heap.size) (tm_A g s.heap.size)) args s 0 0 (tm_A g s.heap.size)) 0 [(0, .ref (g 0)), (1, .int a1)] []
  refine gx_aload_n C dX3_setChances_0 rfl 0 rfl ?_
  refine gx_iload_n C dX3_setChances_1 rfl 1 rfl ?_
  refine gx_iconst (v := 0) C dX3_setChances_2 (by decide) ?_
  refine gx_ldc (v := 65536) C (C.t _ q2402) dX3_setChances_3 ?_
  refine gx_calls_i (rest := [.ref (g 0)]) C (pk_X3_within h) (va_cwS 3 C.t (lw_S q2360 q2361 q130 q2362) rfl rfl rfl dmX3_within ⟨Nat.le_of_ble_eq_true rfl, Nat.le_of_ble_eq_true rfl⟩) rfl rfl (Nat.le_of_ble_eq_true rfl) ⟨Nat.zero_le _, Nat.zero_le _⟩ dX3_setChances_5 (fun r5 h => ?_)
  refine gx_phii (t := (if r5 = 0 then 1 else 0)) (pc2 := 16) (lv2 := [(0, .ref (g 0)), (1, .int a1)]) (rest2 := [.ref (g 0)]) (fun key => ?_) ?_
  · refine gx_if_eq (tgt := 15) C dX3_setChances_8 (by decide) (fun z1 => ?_) (fun z1 => ?_)
    · refine gx_iconst (v := 1) C dX3_setChances_15 (by decide) ?_
      exact gx_casti (if_pos z1) key
    · refine gx_iconst (v := 0) C dX3_setChances_11 (by decide) ?_
      refine gx_goto (tgt := 16) C dX3_setChances_12 (by decide) ?_
      exact gx_casti (if_neg z1) key
  refine tm_put0 C hK q2300 dX3_setChances_16 (fun M16 e_M16 => ?_)
  replace h := h M16 e_M16
  refine gx_aload_n C dX3_setChances_19 rfl 0 rfl ?_
  refine tm_get C hK 0 (by decide) q2300 rfl rfl dX3_setChances_20 ?_
  refine gx_if_le (tgt := 28) C dX3_setChances_23 (by decide) (fun z => ?_) (fun z => ?_)
  · replace h := h.1 z
    refine gx_aload_n C dX3_setChances_28 rfl 0 rfl ?_
    refine tm_callv (rest := []) C hK (fun sz => tk_X3_record h) (cwV 0 C.t (lw_V q2371 q2373 qs47 q130 q2374) rfl rfl rfl ⟨rfl, dmX3_record⟩ ⟨Nat.le_of_ble_eq_true rfl, Nat.le_of_ble_eq_true rfl⟩) rfl rfl (Nat.le_of_ble_eq_true rfl) dX3_setChances_29 (fun M29 h => ?_)
    refine gx_aload_n C dX3_setChances_32 rfl 0 rfl ?_
    refine tm_get C hK 1 (by decide) q2301 rfl rfl dX3_setChances_33 ?_
    refine gx_iconst (v := 1) C dX3_setChances_36 (by decide) ?_
    obtain ⟨g37, h⟩ := h
    refine tm_ald0 C hK g37 dX3_setChances_37 ?_
    refine gx_istore_n (lv' := [(2, .int (ms_r M29 0 1)), (0, .ref (g 0)), (1, .int a1)]) C dX3_setChances_38 rfl (by decide) rfl ?_
    refine gx_aload_n C dX3_setChances_39 rfl 1 rfl ?_
    refine tm_get C hK 1 (by decide) q2301 rfl rfl dX3_setChances_40 ?_
    refine gx_iconst (v := 1) C dX3_setChances_43 (by decide) ?_
    refine gx_iload_n C dX3_setChances_44 rfl 2 rfl ?_
    obtain ⟨g45, h⟩ := h
    refine tm_ast0 C hK g45 dX3_setChances_45 (fun M45 e_M45 => ?_)
    replace h := h M45 e_M45
    refine gx_iload_n C dX3_setChances_46 rfl 0 rfl ?_
    exact tm_iret C hK h dX3_setChances_47
  · replace h := h.2 z
    refine gx_iconst (v := 0) C dX3_setChances_26 (by decide) ?_
    exact tm_iret C hK h dX3_setChances_27
/-! whyNoBox(I)I -/
abbrev rmX3_whyNoBox : Room := { frames := 2, cells := 0, slots := 0, locals := 42 }
theorem dmX3_whyNoBox : yX3_whyNoBox.cls ≠ "java/lang/invoke/MethodHandle" ∧ yX3_whyNoBox.cls ≠ "java/lang/invoke/VarHandle" ∧ (parseMethodDescriptor yX3_whyNoBox.desc).map (fun d => d.parameters.length) = some 1 := by decide +kernel
def tj_X3_whyNoBox_44 (M : MS) (s0 : Int32) (Q : Int32 → MS → Prop) : Prop :=
  Q s0 M
theorem tb_X3_whyNoBox_44 {l : Launch} {p : Program} {e : Env} {s : State} {m : MethodId} {args : Array Value} {below : List Frame} {meth : Method} {c : Code} {D : va_G} {g : Nat → Nat} {cI cJ : ClassId} (C : gx_C p s m args meth c cX3_whyNoBox 2 (some .int) RX3) (hK : va_K D gcl [(cI, .int), (cJ, .long)] s) {M : MS} {s0 : Int32} {Q : Int32 → MS → Prop} (h : tj_X3_whyNoBox_44 M s0 Q)  : gx_W p l e (headSpec (ws_ yX3_whyNoBox cX3_whyNoBox 2 (some .int)) rmX3_whyNoBox).room s m args below meth c 2 (tm_I D g cI cJ s M) 0 0 (MQ below (va_Qi Q (tm_B D g cI cJ s.heap.size) (tm_A g s.heap.size)) args s 0 0 (tm_A g s.heap.size)) 44 [] [.int s0] := by
  unfold tj_X3_whyNoBox_44 at h
  exact tm_iret C hK h dX3_whyNoBox_44
def tj_X3_whyNoBox_39 (M : MS) (Q : Int32 → MS → Prop) : Prop :=
  tj_X3_whyNoBox_44 M 2 Q
theorem tb_X3_whyNoBox_39 {l : Launch} {p : Program} {e : Env} {s : State} {m : MethodId} {args : Array Value} {below : List Frame} {meth : Method} {c : Code} {D : va_G} {g : Nat → Nat} {cI cJ : ClassId} (C : gx_C p s m args meth c cX3_whyNoBox 2 (some .int) RX3) (hK : va_K D gcl [(cI, .int), (cJ, .long)] s) {M : MS} {Q : Int32 → MS → Prop} (h : tj_X3_whyNoBox_39 M Q)  : gx_W p l e (headSpec (ws_ yX3_whyNoBox cX3_whyNoBox 2 (some .int)) rmX3_whyNoBox).room s m args below meth c 2 (tm_I D g cI cJ s M) 0 0 (MQ below (va_Qi Q (tm_B D g cI cJ s.heap.size) (tm_A g s.heap.size)) args s 0 0 (tm_A g s.heap.size)) 39 [] [] := by
  unfold tj_X3_whyNoBox_39 at h
  refine gx_iconst (v := 2) C dX3_whyNoBox_39 (by decide) ?_
  refine gx_goto (tgt := 44) C dX3_whyNoBox_40 (by decide) ?_
  exact tb_X3_whyNoBox_44 C hK h
def tw_X3_whyNoBox (M : MS) (a1 : Int32) (Q : Int32 → MS → Prop) : Prop :=
  pw_X3_isSquare a1 (fun r1 => ((r1 = 0 → tj_X3_whyNoBox_44 M 1 Q) ∧ (¬ (r1 = 0) → (vp_in 2 754 ∧ (((ms_r M 0 2) = 10 → tj_X3_whyNoBox_39 M Q) ∧ (¬ (ms_r M 0 2) = 10 → tw_X3_isRoad M a1 (fun r24 M24 => ((r24 = 0 → tw_X3_boxAt M24 a1 (fun r32 M32 => ((r32 = (-1) → tj_X3_whyNoBox_44 M32 0 Q) ∧ (¬ (r32 = (-1)) → tj_X3_whyNoBox_39 M32 Q)))) ∧ (¬ (r24 = 0) → tj_X3_whyNoBox_39 M24 Q)))))))))
theorem tk_X3_whyNoBox {l : Launch} {D : va_G} {g : Nat → Nat} {cI cJ : ClassId} {sz : Nat} {M : MS} {a1 : Int32} {Q : Int32 → MS → Prop} (h : tw_X3_whyNoBox M a1 Q) : tm_Met l yX3_whyNoBox cX3_whyNoBox 2 (some .int) rmX3_whyNoBox [.int a1] D g cI cJ sz M (va_Qi Q (tm_B D g cI cJ sz) (tm_A g sz)) := by
  refine tm_entry (by decide) (Nat.le_of_ble_eq_true rfl) (fun p e s m args below meth c hsz C hK => ?_)
  subst hsz
  unfold tw_X3_whyNoBox at h
  show gx_W p l e (headSpec (ws_ yX3_whyNoBox cX3_whyNoBox 2 (some .int)) rmX3_whyNoBox).room s m args below meth c 2 (tm_I D g cI cJ s M) 0 0 (MQ below (va_Qi Q (tm_B D g cI cJ s.heap.size) (tm_A g s.heap.size)) args s 0 0 (tm_A g s.heap.size)) 0 [(0, .ref (g 0)), (1, .int a1)] []
  refine gx_iload_n C dX3_whyNoBox_0 rfl 1 rfl ?_
  refine gx_calls_i (rest := []) C (pk_X3_isSquare h) (va_cwS 1 C.t (lw_S q2357 q2358 q130 q2359) rfl rfl rfl dmX3_isSquare ⟨Nat.le_of_ble_eq_true rfl, Nat.le_of_ble_eq_true rfl⟩) rfl rfl (Nat.le_of_ble_eq_true rfl) ⟨Nat.zero_le _, Nat.zero_le _⟩ dX3_whyNoBox_1 (fun r1 h => ?_)
  refine gx_if_ne (tgt := 11) C dX3_whyNoBox_4 (by decide) (fun z => ?_) (fun z => ?_)
  · replace h := h.2 z
    refine gx_aload_n C dX3_whyNoBox_11 rfl 0 rfl ?_
    refine tm_get C hK 1 (by decide) q2301 rfl rfl dX3_whyNoBox_12 ?_
    refine gx_iconst (v := 2) C dX3_whyNoBox_15 (by decide) ?_
    obtain ⟨g16, h⟩ := h
    refine tm_ald0 C hK g16 dX3_whyNoBox_16 ?_
    refine gx_bipush (v := 10) C dX3_whyNoBox_17 (by decide) ?_
    refine gx_icmp_eq (tgt := 39) C dX3_whyNoBox_19 (by decide) (fun z => ?_) (fun z => ?_)
    · replace h := h.1 z
      refine gx_sub [] rfl ?_
      exact tb_X3_whyNoBox_39 C hK h
    · replace h := h.2 z
      refine gx_aload_n C dX3_whyNoBox_22 rfl 0 rfl ?_
      refine gx_iload_n C dX3_whyNoBox_23 rfl 1 rfl ?_
      refine tm_calli (rest := []) C hK (fun sz => tk_X3_isRoad h) (cwV 1 C.t (lw_V q2390 q2392 qs50 q130 q2393) rfl rfl rfl ⟨rfl, dmX3_isRoad⟩ ⟨Nat.le_of_ble_eq_true rfl, Nat.le_of_ble_eq_true rfl⟩) rfl rfl (Nat.le_of_ble_eq_true rfl) dX3_whyNoBox_24 (fun r24 M24 h => ?_)
      refine gx_if_ne (tgt := 39) C dX3_whyNoBox_27 (by decide) (fun z => ?_) (fun z => ?_)
      · replace h := h.2 z
        refine gx_sub [] rfl ?_
        exact tb_X3_whyNoBox_39 C hK h
      · replace h := h.1 z
        refine gx_aload_n C dX3_whyNoBox_30 rfl 0 rfl ?_
        refine gx_iload_n C dX3_whyNoBox_31 rfl 1 rfl ?_
        refine tm_calli (rest := []) C hK (fun sz => tk_X3_boxAt h) (cwV 1 C.t (lw_V q2367 q2369 qs46 q130 q2370) rfl rfl rfl ⟨rfl, dmX3_boxAt⟩ ⟨Nat.le_of_ble_eq_true rfl, Nat.le_of_ble_eq_true rfl⟩) rfl rfl (Nat.le_of_ble_eq_true rfl) dX3_whyNoBox_32 (fun r32 M32 h => ?_)
        refine gx_iconst (v := (-1)) C dX3_whyNoBox_35 (by decide) ?_
        refine gx_icmp_eq (tgt := 43) C dX3_whyNoBox_36 (by decide) (fun z => ?_) (fun z => ?_)
        · replace h := h.1 z
          refine gx_iconst (v := 0) C dX3_whyNoBox_43 (by decide) ?_
          refine gx_sub [] rfl ?_
          exact tb_X3_whyNoBox_44 C hK h
        · replace h := h.2 z
          refine gx_sub [] rfl ?_
          exact tb_X3_whyNoBox_39 C hK h
  · replace h := h.1 z
    refine gx_iconst (v := 1) C dX3_whyNoBox_7 (by decide) ?_
    refine gx_goto (tgt := 44) C dX3_whyNoBox_8 (by decide) ?_
    refine gx_sub [] rfl ?_
    exact tb_X3_whyNoBox_44 C hK h
/-! putsBox(I)I -/
abbrev rmX3_putsBox : Room := { frames := 0, cells := 0, slots := 0, locals := 0 }
theorem dmX3_putsBox : yX3_putsBox.cls ≠ "java/lang/invoke/MethodHandle" ∧ yX3_putsBox.cls ≠ "java/lang/invoke/VarHandle" ∧ (parseMethodDescriptor yX3_putsBox.desc).map (fun d => d.parameters.length) = some 1 := by decide +kernel
def tw_X3_putsBox (M : MS) (a1 : Int32) (Q : Int32 → MS → Prop) : Prop :=
  (vp_in 2 754 ∧ (vp_in (144 + (ms_r M 0 2)) 754 ∧ ∀ M15 : MS, M15 = ms_a M 0 (144 + (ms_r M 0 2)) a1 → (vp_in 2 754 ∧ (vp_in 2 754 ∧ ∀ M25 : MS, M25 = ms_a M15 0 2 ((ms_r M15 0 2) + 1) → (vp_in 2 754 ∧ Q ((ms_r M25 0 2) - 1) M25)))))
theorem tk_X3_putsBox {l : Launch} {D : va_G} {g : Nat → Nat} {cI cJ : ClassId} {sz : Nat} {M : MS} {a1 : Int32} {Q : Int32 → MS → Prop} (h : tw_X3_putsBox M a1 Q) : tm_Met l yX3_putsBox cX3_putsBox 2 (some .int) rmX3_putsBox [.int a1] D g cI cJ sz M (va_Qi Q (tm_B D g cI cJ sz) (tm_A g sz)) := by
  refine tm_entry (by decide) (Nat.le_of_ble_eq_true rfl) (fun p e s m args below meth c hsz C hK => ?_)
  subst hsz
  unfold tw_X3_putsBox at h
  show gx_W p l e (headSpec (ws_ yX3_putsBox cX3_putsBox 2 (some .int)) rmX3_putsBox).room s m args below meth c 2 (tm_I D g cI cJ s M) 0 0 (MQ below (va_Qi Q (tm_B D g cI cJ s.heap.size) (tm_A g s.heap.size)) args s 0 0 (tm_A g s.heap.size)) 0 [(0, .ref (g 0)), (1, .int a1)] []
  refine gx_aload_n C dX3_putsBox_0 rfl 0 rfl ?_
  refine tm_get C hK 1 (by decide) q2301 rfl rfl dX3_putsBox_1 ?_
  refine gx_sipush (v := 144) C dX3_putsBox_4 (by decide) ?_
  refine gx_aload_n C dX3_putsBox_7 rfl 0 rfl ?_
  refine tm_get C hK 1 (by decide) q2301 rfl rfl dX3_putsBox_8 ?_
  refine gx_iconst (v := 2) C dX3_putsBox_11 (by decide) ?_
  obtain ⟨g12, h⟩ := h
  refine tm_ald0 C hK g12 dX3_putsBox_12 ?_
  refine gx_iadd C dX3_putsBox_13 ?_
  refine gx_iload_n C dX3_putsBox_14 rfl 1 rfl ?_
  obtain ⟨g15, h⟩ := h
  refine tm_ast0 C hK g15 dX3_putsBox_15 (fun M15 e_M15 => ?_)
  replace h := h M15 e_M15
  refine gx_aload_n C dX3_putsBox_16 rfl 0 rfl ?_
  refine tm_get C hK 1 (by decide) q2301 rfl rfl dX3_putsBox_17 ?_
  refine gx_iconst (v := 2) C dX3_putsBox_20 (by decide) ?_
  refine gx_dup2_11 C dX3_putsBox_21 rfl rfl ?_
  obtain ⟨g22, h⟩ := h
  refine tm_ald0 C hK g22 dX3_putsBox_22 ?_
  refine gx_iconst (v := 1) C dX3_putsBox_23 (by decide) ?_
  refine gx_iadd C dX3_putsBox_24 ?_
  obtain ⟨g25, h⟩ := h
  refine tm_ast0 C hK g25 dX3_putsBox_25 (fun M25 e_M25 => ?_)
  replace h := h M25 e_M25
  refine gx_aload_n C dX3_putsBox_26 rfl 0 rfl ?_
  refine tm_get C hK 1 (by decide) q2301 rfl rfl dX3_putsBox_27 ?_
  refine gx_iconst (v := 2) C dX3_putsBox_30 (by decide) ?_
  obtain ⟨g31, h⟩ := h
  refine tm_ald0 C hK g31 dX3_putsBox_31 ?_
  refine gx_iconst (v := 1) C dX3_putsBox_32 (by decide) ?_
  refine gx_isub C dX3_putsBox_33 ?_
  exact tm_iret C hK h dX3_putsBox_34
/-! putBox(I)I -/
abbrev rmX3_putBox : Room := { frames := 3, cells := 0, slots := 0, locals := 63 }
theorem dmX3_putBox : yX3_putBox.cls ≠ "java/lang/invoke/MethodHandle" ∧ yX3_putBox.cls ≠ "java/lang/invoke/VarHandle" ∧ (parseMethodDescriptor yX3_putBox.desc).map (fun d => d.parameters.length) = some 1 := by decide +kernel
def tw_X3_putBox (M : MS) (a1 : Int32) (Q : Int32 → MS → Prop) : Prop :=
  tw_X3_whyNoBox M a1 (fun r3 M3 => (∀ M6 : MS, M6 = ms_s M3 0 r3 → (((M6.1 0) ≤ 0 → tw_X3_record M6 (fun M19 => tw_X3_putsBox M19 a1 (fun r24 M24 => Q r24 M24))) ∧ (¬ (M6.1 0) ≤ 0 → Q 0 M6))))
theorem tk_X3_putBox {l : Launch} {D : va_G} {g : Nat → Nat} {cI cJ : ClassId} {sz : Nat} {M : MS} {a1 : Int32} {Q : Int32 → MS → Prop} (h : tw_X3_putBox M a1 Q) : tm_Met l yX3_putBox cX3_putBox 2 (some .int) rmX3_putBox [.int a1] D g cI cJ sz M (va_Qi Q (tm_B D g cI cJ sz) (tm_A g sz)) := by
  refine tm_entry (by decide) (Nat.le_of_ble_eq_true rfl) (fun p e s m args below meth c hsz C hK => ?_)
  subst hsz
  unfold tw_X3_putBox at h
  show gx_W p l e (headSpec (ws_ yX3_putBox cX3_putBox 2 (some .int)) rmX3_putBox).room s m args below meth c 2 (tm_I D g cI cJ s M) 0 0 (MQ below (va_Qi Q (tm_B D g cI cJ s.heap.size) (tm_A g s.heap.size)) args s 0 0 (tm_A g s.heap.size)) 0 [(0, .ref (g 0)), (1, .int a1)] []
  refine gx_aload_n C dX3_putBox_0 rfl 0 rfl ?_
  refine gx_aload_n C dX3_putBox_1 rfl 0 rfl ?_
  refine gx_iload_n C dX3_putBox_2 rfl 1 rfl ?_
  refine tm_calli (rest := [.ref (g 0)]) C hK (fun sz => tk_X3_whyNoBox h) (cwV 1 C.t (lw_V q2407 q2409 qs51 q130 q2410) rfl rfl rfl ⟨rfl, dmX3_whyNoBox⟩ ⟨Nat.le_of_ble_eq_true rfl, Nat.le_of_ble_eq_true rfl⟩) rfl rfl (Nat.le_of_ble_eq_true rfl) dX3_putBox_3 (fun r3 M3 h => ?_)
  refine tm_put0 C hK q2300 dX3_putBox_6 (fun M6 e_M6 => ?_)
  replace h := h M6 e_M6
  refine gx_aload_n C dX3_putBox_9 rfl 0 rfl ?_
  refine tm_get C hK 0 (by decide) q2300 rfl rfl dX3_putBox_10 ?_
  refine gx_if_le (tgt := 18) C dX3_putBox_13 (by decide) (fun z => ?_) (fun z => ?_)
  · replace h := h.1 z
    refine gx_aload_n C dX3_putBox_18 rfl 0 rfl ?_
    refine tm_callv (rest := []) C hK (fun sz => tk_X3_record h) (cwV 0 C.t (lw_V q2371 q2373 qs47 q130 q2374) rfl rfl rfl ⟨rfl, dmX3_record⟩ ⟨Nat.le_of_ble_eq_true rfl, Nat.le_of_ble_eq_true rfl⟩) rfl rfl (Nat.le_of_ble_eq_true rfl) dX3_putBox_19 (fun M19 h => ?_)
    refine gx_aload_n C dX3_putBox_22 rfl 0 rfl ?_
    refine gx_iload_n C dX3_putBox_23 rfl 1 rfl ?_
    refine tm_calli (rest := []) C hK (fun sz => tk_X3_putsBox h) (cwV 1 C.t (lw_V q2411 q2413 qs52 q130 q2414) rfl rfl rfl ⟨rfl, dmX3_putsBox⟩ ⟨Nat.le_of_ble_eq_true rfl, Nat.le_of_ble_eq_true rfl⟩) rfl rfl (Nat.le_of_ble_eq_true rfl) dX3_putBox_24 (fun r24 M24 h => ?_)
    exact tm_iret C hK h dX3_putBox_27
  · replace h := h.2 z
    refine gx_iconst (v := 0) C dX3_putBox_16 (by decide) ?_
    exact tm_iret C hK h dX3_putBox_17
/-! isBox(I)Z -/
abbrev rmX3_isBox : Room := { frames := 1, cells := 0, slots := 0, locals := 22 }
theorem dmX3_isBox : yX3_isBox.cls ≠ "java/lang/invoke/MethodHandle" ∧ yX3_isBox.cls ≠ "java/lang/invoke/VarHandle" ∧ (parseMethodDescriptor yX3_isBox.desc).map (fun d => d.parameters.length) = some 1 := by decide +kernel
def tw_X3_isBox (M : MS) (a1 : Int32) (Q : Int32 → MS → Prop) : Prop :=
  (vp_in 2 754 ∧ pw_X3_within a1 0 ((ms_r M 0 2) - 1) (fun r10 => (narrow .boolean (.int r10) = .int r10 ∧ Q r10 M)))
theorem tk_X3_isBox {l : Launch} {D : va_G} {g : Nat → Nat} {cI cJ : ClassId} {sz : Nat} {M : MS} {a1 : Int32} {Q : Int32 → MS → Prop} (h : tw_X3_isBox M a1 Q) : tm_Met l yX3_isBox cX3_isBox 2 (some .boolean) rmX3_isBox [.int a1] D g cI cJ sz M (va_Qi Q (tm_B D g cI cJ sz) (tm_A g sz)) := by
  refine tm_entry (by decide) (Nat.le_of_ble_eq_true rfl) (fun p e s m args below meth c hsz C hK => ?_)
  subst hsz
  unfold tw_X3_isBox at h
  show gx_W p l e (headSpec (ws_ yX3_isBox cX3_isBox 2 (some .boolean)) rmX3_isBox).room s m args below meth c 2 (tm_I D g cI cJ s M) 0 0 (MQ below (va_Qi Q (tm_B D g cI cJ s.heap.size) (tm_A g s.heap.size)) args s 0 0 (tm_A g s.heap.size)) 0 [(0, .ref (g 0)), (1, .int a1)] []
  refine gx_iload_n C dX3_isBox_0 rfl 1 rfl ?_
  refine gx_iconst (v := 0) C dX3_isBox_1 (by decide) ?_
  refine gx_aload_n C dX3_isBox_2 rfl 0 rfl ?_
  refine tm_get C hK 1 (by decide) q2301 rfl rfl dX3_isBox_3 ?_
  refine gx_iconst (v := 2) C dX3_isBox_6 (by decide) ?_
  obtain ⟨g7, h⟩ := h
  refine tm_ald0 C hK g7 dX3_isBox_7 ?_
  refine gx_iconst (v := 1) C dX3_isBox_8 (by decide) ?_
  refine gx_isub C dX3_isBox_9 ?_
  refine gx_calls_i (rest := []) C (pk_X3_within h) (va_cwS 3 C.t (lw_S q2360 q2361 q130 q2362) rfl rfl rfl dmX3_within ⟨Nat.le_of_ble_eq_true rfl, Nat.le_of_ble_eq_true rfl⟩) rfl rfl (Nat.le_of_ble_eq_true rfl) ⟨Nat.zero_le _, Nat.zero_le _⟩ dX3_isBox_10 (fun r10 h => ?_)
  obtain ⟨g13, h⟩ := h
  exact tm_zret C hK g13 h dX3_isBox_13
/-! asksBox(I)Z -/
abbrev rmX3_asksBox : Room := { frames := 2, cells := 0, slots := 0, locals := 43 }
theorem dmX3_asksBox : yX3_asksBox.cls ≠ "java/lang/invoke/MethodHandle" ∧ yX3_asksBox.cls ≠ "java/lang/invoke/VarHandle" ∧ (parseMethodDescriptor yX3_asksBox.desc).map (fun d => d.parameters.length) = some 1 := by decide +kernel
def tw_X3_asksBox (M : MS) (a1 : Int32) (Q : Int32 → MS → Prop) : Prop :=
  tw_X3_isBox M a1 (fun r3 M3 => (∀ M14 : MS, M14 = ms_s M3 0 (if r3 = 0 then 1 else 0) → Q (if (M14.1 0) = 0 then 1 else 0) M14))
theorem tk_X3_asksBox {l : Launch} {D : va_G} {g : Nat → Nat} {cI cJ : ClassId} {sz : Nat} {M : MS} {a1 : Int32} {Q : Int32 → MS → Prop} (h : tw_X3_asksBox M a1 Q) : tm_Met l yX3_asksBox cX3_asksBox 2 (some .boolean) rmX3_asksBox [.int a1] D g cI cJ sz M (va_Qi Q (tm_B D g cI cJ sz) (tm_A g sz)) := by
  refine tm_entry (by decide) (Nat.le_of_ble_eq_true rfl) (fun p e s m args below meth c hsz C hK => ?_)
  subst hsz
  unfold tw_X3_asksBox at h
  show gx_W p l e (headSpec (ws_ yX3_asksBox cX3_asksBox 2 (some .boolean)) rmX3_asksBox).room s m args below meth c 2 (tm_I D g cI cJ s M) 0 0 (MQ below (va_Qi Q (tm_B D g cI cJ s.heap.size) (tm_A g s.heap.size)) args s 0 0 (tm_A g s.heap.size)) 0 [(0, .ref (g 0)), (1, .int a1)] []
  refine gx_aload_n C dX3_asksBox_0 rfl 0 rfl ?_
  refine gx_aload_n C dX3_asksBox_1 rfl 0 rfl ?_
  refine gx_iload_n C dX3_asksBox_2 rfl 1 rfl ?_
  refine tm_calli (rest := [.ref (g 0)]) C hK (fun sz => tk_X3_isBox h) (cwV 1 C.t (lw_V q2423 q2425 qs54 q130 q2426) rfl rfl rfl ⟨rfl, dmX3_isBox⟩ ⟨Nat.le_of_ble_eq_true rfl, Nat.le_of_ble_eq_true rfl⟩) rfl rfl (Nat.le_of_ble_eq_true rfl) dX3_asksBox_3 (fun r3 M3 h => ?_)
  refine gx_phii (t := (if r3 = 0 then 1 else 0)) (pc2 := 14) (lv2 := [(0, .ref (g 0)), (1, .int a1)]) (rest2 := [.ref (g 0)]) (fun key => ?_) ?_
  · refine gx_if_eq (tgt := 13) C dX3_asksBox_6 (by decide) (fun z1 => ?_) (fun z1 => ?_)
    · refine gx_iconst (v := 1) C dX3_asksBox_13 (by decide) ?_
      exact gx_casti (if_pos z1) key
    · refine gx_iconst (v := 0) C dX3_asksBox_9 (by decide) ?_
      refine gx_goto (tgt := 14) C dX3_asksBox_10 (by decide) ?_
      exact gx_casti (if_neg z1) key
  refine tm_put0 C hK q2300 dX3_asksBox_14 (fun M14 e_M14 => ?_)
  replace h := h M14 e_M14
  refine gx_aload_n C dX3_asksBox_17 rfl 0 rfl ?_
  refine tm_get C hK 0 (by decide) q2300 rfl rfl dX3_asksBox_18 ?_
  refine gx_phii (t := (if (M14.1 0) = 0 then 1 else 0)) (pc2 := 29) (lv2 := [(0, .ref (g 0)), (1, .int a1)]) (rest2 := []) (fun key => ?_) ?_
  · refine gx_if_ne (tgt := 28) C dX3_asksBox_21 (by decide) (fun z1 => ?_) (fun z1 => ?_)
    · refine gx_iconst (v := 0) C dX3_asksBox_28 (by decide) ?_
      exact gx_casti (if_neg z1) key
    · refine gx_iconst (v := 1) C dX3_asksBox_24 (by decide) ?_
      refine gx_goto (tgt := 29) C dX3_asksBox_25 (by decide) ?_
      exact gx_casti (if_pos z1) key
  exact tm_zret C hK (by repeat' (first | rfl | split)) h dX3_asksBox_29
/-! of(II)I -/
abbrev rmX3_of : Room := { frames := 0, cells := 0, slots := 0, locals := 0 }
theorem dmX3_of : yX3_of.cls ≠ "java/lang/invoke/MethodHandle" ∧ yX3_of.cls ≠ "java/lang/invoke/VarHandle" ∧ (parseMethodDescriptor yX3_of.desc).map (fun d => d.parameters.length) = some 2 := by decide +kernel
def tw_X3_of (M : MS) (a1 : Int32) (a2 : Int32) (Q : Int32 → MS → Prop) : Prop :=
  (vp_in ((154 + (6 * a1)) + a2) 754 ∧ Q (ms_r M 0 ((154 + (6 * a1)) + a2)) M)
theorem tk_X3_of {l : Launch} {D : va_G} {g : Nat → Nat} {cI cJ : ClassId} {sz : Nat} {M : MS} {a1 : Int32} {a2 : Int32} {Q : Int32 → MS → Prop} (h : tw_X3_of M a1 a2 Q) : tm_Met l yX3_of cX3_of 3 (some .int) rmX3_of [.int a1, .int a2] D g cI cJ sz M (va_Qi Q (tm_B D g cI cJ sz) (tm_A g sz)) := by
  refine tm_entry (by decide) (Nat.le_of_ble_eq_true rfl) (fun p e s m args below meth c hsz C hK => ?_)
  subst hsz
  unfold tw_X3_of at h
  show gx_W p l e (headSpec (ws_ yX3_of cX3_of 3 (some .int)) rmX3_of).room s m args below meth c 3 (tm_I D g cI cJ s M) 0 0 (MQ below (va_Qi Q (tm_B D g cI cJ s.heap.size) (tm_A g s.heap.size)) args s 0 0 (tm_A g s.heap.size)) 0 [(0, .ref (g 0)), (1, .int a1), (2, .int a2)] []
  refine gx_aload_n C dX3_of_0 rfl 0 rfl ?_
  refine tm_get C hK 1 (by decide) q2301 rfl rfl dX3_of_1 ?_
  refine gx_sipush (v := 154) C dX3_of_4 (by decide) ?_
  refine gx_bipush (v := 6) C dX3_of_7 (by decide) ?_
  refine gx_iload_n C dX3_of_9 rfl 1 rfl ?_
  refine gx_imul C dX3_of_10 ?_
  refine gx_iadd C dX3_of_11 ?_
  refine gx_iload_n C dX3_of_12 rfl 2 rfl ?_
  refine gx_iadd C dX3_of_13 ?_
  obtain ⟨g14, h⟩ := h
  refine tm_ald0 C hK g14 dX3_of_14 ?_
  exact tm_iret C hK h dX3_of_15
/-! owlIn(II)I -/
abbrev rmX3_owlIn : Room := { frames := 1, cells := 0, slots := 0, locals := 22 }
theorem dmX3_owlIn : yX3_owlIn.cls ≠ "java/lang/invoke/MethodHandle" ∧ yX3_owlIn.cls ≠ "java/lang/invoke/VarHandle" ∧ (parseMethodDescriptor yX3_owlIn.desc).map (fun d => d.parameters.length) = some 2 := by decide +kernel
def tj_X3_owlIn_44 (M : MS) (a1 : Int32) (a2 : Int32) (a4 : Int32) (s0 : Int32) (k5 : MS → Int32 → Int32 → Int32 → Int32 → Prop) (Q : Int32 → MS → Prop) : Prop :=
  k5 M a1 a2 s0 (a4 + 1)
theorem tb_X3_owlIn_44 {l : Launch} {p : Program} {e : Env} {s : State} {m : MethodId} {args : Array Value} {below : List Frame} {meth : Method} {c : Code} {D : va_G} {g : Nat → Nat} {cI cJ : ClassId} (C : gx_C p s m args meth c cX3_owlIn 5 (some .int) RX3) (hK : va_K D gcl [(cI, .int), (cJ, .long)] s) {M : MS} {a1 : Int32} {a2 : Int32} {a4 : Int32} {s0 : Int32} {k5 : MS → Int32 → Int32 → Int32 → Int32 → Prop} {Q : Int32 → MS → Prop} (h : tj_X3_owlIn_44 M a1 a2 a4 s0 k5 Q) (hk5 : ∀ (M : MS) (a1 : Int32) (a2 : Int32) (a3 : Int32) (a4 : Int32), k5 M a1 a2 a3 a4 → gx_W p l e (headSpec (ws_ yX3_owlIn cX3_owlIn 5 (some .int)) rmX3_owlIn).room s m args below meth c 5 (tm_I D g cI cJ s M) 0 0 (MQ below (va_Qi Q (tm_B D g cI cJ s.heap.size) (tm_A g s.heap.size)) args s 0 0 (tm_A g s.heap.size)) 5 [(0, .ref (g 0)), (1, .int a1), (2, .int a2), (3, .int a3), (4, .int a4)] []) : gx_W p l e (headSpec (ws_ yX3_owlIn cX3_owlIn 5 (some .int)) rmX3_owlIn).room s m args below meth c 5 (tm_I D g cI cJ s M) 0 0 (MQ below (va_Qi Q (tm_B D g cI cJ s.heap.size) (tm_A g s.heap.size)) args s 0 0 (tm_A g s.heap.size)) 44 [(0, .ref (g 0)), (1, .int a1), (2, .int a2), (4, .int a4)] [.int s0] := by
  unfold tj_X3_owlIn_44 at h
  refine gx_istore_n (lv' := [(3, .int s0), (0, .ref (g 0)), (1, .int a1), (2, .int a2), (4, .int a4)]) C dX3_owlIn_44 rfl (by decide) rfl ?_
  refine gx_iinc (v := a4 + 1) (k := 4) (lv' := [(4, .int (a4 + 1)), (3, .int s0), (0, .ref (g 0)), (1, .int a1), (2, .int a2)]) C dX3_owlIn_45 rfl rfl (by decide) rfl ?_
  refine gx_goto (tgt := 5) C dX3_owlIn_48 (by decide) ?_
  refine gx_sub [2, 3, 4, 1, 0] rfl ?_
  exact hk5 M a1 a2 s0 (a4 + 1) h
def tj_X3_owlIn_43 (M : MS) (a1 : Int32) (a2 : Int32) (a3 : Int32) (a4 : Int32) (k5 : MS → Int32 → Int32 → Int32 → Int32 → Prop) (Q : Int32 → MS → Prop) : Prop :=
  tj_X3_owlIn_44 M a1 a2 a4 a3 k5 Q
theorem tb_X3_owlIn_43 {l : Launch} {p : Program} {e : Env} {s : State} {m : MethodId} {args : Array Value} {below : List Frame} {meth : Method} {c : Code} {D : va_G} {g : Nat → Nat} {cI cJ : ClassId} (C : gx_C p s m args meth c cX3_owlIn 5 (some .int) RX3) (hK : va_K D gcl [(cI, .int), (cJ, .long)] s) {M : MS} {a1 : Int32} {a2 : Int32} {a3 : Int32} {a4 : Int32} {k5 : MS → Int32 → Int32 → Int32 → Int32 → Prop} {Q : Int32 → MS → Prop} (h : tj_X3_owlIn_43 M a1 a2 a3 a4 k5 Q) (hk5 : ∀ (M : MS) (a1 : Int32) (a2 : Int32) (a3 : Int32) (a4 : Int32), k5 M a1 a2 a3 a4 → gx_W p l e (headSpec (ws_ yX3_owlIn cX3_owlIn 5 (some .int)) rmX3_owlIn).room s m args below meth c 5 (tm_I D g cI cJ s M) 0 0 (MQ below (va_Qi Q (tm_B D g cI cJ s.heap.size) (tm_A g s.heap.size)) args s 0 0 (tm_A g s.heap.size)) 5 [(0, .ref (g 0)), (1, .int a1), (2, .int a2), (3, .int a3), (4, .int a4)] []) : gx_W p l e (headSpec (ws_ yX3_owlIn cX3_owlIn 5 (some .int)) rmX3_owlIn).room s m args below meth c 5 (tm_I D g cI cJ s M) 0 0 (MQ below (va_Qi Q (tm_B D g cI cJ s.heap.size) (tm_A g s.heap.size)) args s 0 0 (tm_A g s.heap.size)) 43 [(0, .ref (g 0)), (1, .int a1), (2, .int a2), (3, .int a3), (4, .int a4)] [] := by
  unfold tj_X3_owlIn_43 at h
  refine gx_iload_n C dX3_owlIn_43 rfl 3 rfl ?_
  refine gx_sub [0, 1, 2, 4] rfl ?_
  exact tb_X3_owlIn_44 C hK h hk5
def tj_X3_owlIn_5 (M : MS) (a1 : Int32) (a2 : Int32) (a3 : Int32) (a4 : Int32) (k5 : MS → Int32 → Int32 → Int32 → Int32 → Prop) (Q : Int32 → MS → Prop) : Prop :=
  (vp_in 3 754 ∧ (((ms_r M 0 3) ≤ a4 → Q a3 M) ∧ (¬ (ms_r M 0 3) ≤ a4 → tw_X3_of M a4 5 (fun r20 M20 => ((r20 = a1 → tw_X3_of M20 a4 1 (fun r31 M31 => ((r31 = a2 → tj_X3_owlIn_44 M31 a1 a2 a4 a4 k5 Q) ∧ (¬ (r31 = a2) → tj_X3_owlIn_43 M31 a1 a2 a3 a4 k5 Q)))) ∧ (¬ (r20 = a1) → tj_X3_owlIn_43 M20 a1 a2 a3 a4 k5 Q))))))
theorem tb_X3_owlIn_5 {l : Launch} {p : Program} {e : Env} {s : State} {m : MethodId} {args : Array Value} {below : List Frame} {meth : Method} {c : Code} {D : va_G} {g : Nat → Nat} {cI cJ : ClassId} (C : gx_C p s m args meth c cX3_owlIn 5 (some .int) RX3) (hK : va_K D gcl [(cI, .int), (cJ, .long)] s) {M : MS} {a1 : Int32} {a2 : Int32} {a3 : Int32} {a4 : Int32} {k5 : MS → Int32 → Int32 → Int32 → Int32 → Prop} {Q : Int32 → MS → Prop} (h : tj_X3_owlIn_5 M a1 a2 a3 a4 k5 Q) (hk5 : ∀ (M : MS) (a1 : Int32) (a2 : Int32) (a3 : Int32) (a4 : Int32), k5 M a1 a2 a3 a4 → gx_W p l e (headSpec (ws_ yX3_owlIn cX3_owlIn 5 (some .int)) rmX3_owlIn).room s m args below meth c 5 (tm_I D g cI cJ s M) 0 0 (MQ below (va_Qi Q (tm_B D g cI cJ s.heap.size) (tm_A g s.heap.size)) args s 0 0 (tm_A g s.heap.size)) 5 [(0, .ref (g 0)), (1, .int a1), (2, .int a2), (3, .int a3), (4, .int a4)] []) : gx_W p l e (headSpec (ws_ yX3_owlIn cX3_owlIn 5 (some .int)) rmX3_owlIn).room s m args below meth c 5 (tm_I D g cI cJ s M) 0 0 (MQ below (va_Qi Q (tm_B D g cI cJ s.heap.size) (tm_A g s.heap.size)) args s 0 0 (tm_A g s.heap.size)) 5 [(0, .ref (g 0)), (1, .int a1), (2, .int a2), (3, .int a3), (4, .int a4)] [] := by
  unfold tj_X3_owlIn_5 at h
  refine gx_iload C dX3_owlIn_5 4 rfl ?_
  refine gx_aload_n C dX3_owlIn_7 rfl 0 rfl ?_
  refine tm_get C hK 1 (by decide) q2301 rfl rfl dX3_owlIn_8 ?_
  refine gx_iconst (v := 3) C dX3_owlIn_11 (by decide) ?_
  obtain ⟨g12, h⟩ := h
  refine tm_ald0 C hK g12 dX3_owlIn_12 ?_
  refine gx_icmp_ge (tgt := 51) C dX3_owlIn_13 (by decide) (fun z => ?_) (fun z => ?_)
  · replace h := h.1 z
    refine gx_iload_n C dX3_owlIn_51 rfl 3 rfl ?_
    exact tm_iret C hK h dX3_owlIn_52
  · replace h := h.2 z
    refine gx_aload_n C dX3_owlIn_16 rfl 0 rfl ?_
    refine gx_iload C dX3_owlIn_17 4 rfl ?_
    refine gx_iconst (v := 5) C dX3_owlIn_19 (by decide) ?_
    refine tm_calli (rest := []) C hK (fun sz => tk_X3_of h) (cwV 2 C.t (lw_V q2435 q2437 qs57 q130 q2438) rfl rfl rfl ⟨rfl, dmX3_of⟩ ⟨Nat.le_of_ble_eq_true rfl, Nat.le_of_ble_eq_true rfl⟩) rfl rfl (Nat.le_of_ble_eq_true rfl) dX3_owlIn_20 (fun r20 M20 h => ?_)
    refine gx_iload_n C dX3_owlIn_23 rfl 1 rfl ?_
    refine gx_icmp_ne (tgt := 43) C dX3_owlIn_24 (by decide) (fun z => ?_) (fun z => ?_)
    · replace h := h.2 z
      exact tb_X3_owlIn_43 C hK h hk5
    · replace h := h.1 z
      refine gx_aload_n C dX3_owlIn_27 rfl 0 rfl ?_
      refine gx_iload C dX3_owlIn_28 4 rfl ?_
      refine gx_iconst (v := 1) C dX3_owlIn_30 (by decide) ?_
      refine tm_calli (rest := []) C hK (fun sz => tk_X3_of h) (cwV 2 C.t (lw_V q2435 q2437 qs57 q130 q2438) rfl rfl rfl ⟨rfl, dmX3_of⟩ ⟨Nat.le_of_ble_eq_true rfl, Nat.le_of_ble_eq_true rfl⟩) rfl rfl (Nat.le_of_ble_eq_true rfl) dX3_owlIn_31 (fun r31 M31 h => ?_)
      refine gx_iload_n C dX3_owlIn_34 rfl 2 rfl ?_
      refine gx_icmp_ne (tgt := 43) C dX3_owlIn_35 (by decide) (fun z => ?_) (fun z => ?_)
      · replace h := h.2 z
        exact tb_X3_owlIn_43 C hK h hk5
      · replace h := h.1 z
        refine gx_iload C dX3_owlIn_38 4 rfl ?_
        refine gx_goto (tgt := 44) C dX3_owlIn_40 (by decide) ?_
        refine gx_sub [0, 1, 2, 4] rfl ?_
        exact tb_X3_owlIn_44 C hK h hk5
def tl_X3_owlIn_5 (Q : Int32 → MS → Prop) : Nat → MS → Int32 → Int32 → Int32 → Int32 → Prop
  | 0, _, _, _, _, _ => False
  | n + 1, M, a1, a2, a3, a4 => tj_X3_owlIn_5 M a1 a2 a3 a4 (fun M a1 a2 a3 a4 => tl_X3_owlIn_5 Q n M a1 a2 a3 a4) Q
theorem te_X3_owlIn_5 {l : Launch} {p : Program} {e : Env} {s : State} {m : MethodId} {args : Array Value} {below : List Frame} {meth : Method} {c : Code} {D : va_G} {g : Nat → Nat} {cI cJ : ClassId} (C : gx_C p s m args meth c cX3_owlIn 5 (some .int) RX3) (hK : va_K D gcl [(cI, .int), (cJ, .long)] s) {Q : Int32 → MS → Prop}  (n : Nat) : ∀ (M : MS) (a1 : Int32) (a2 : Int32) (a3 : Int32) (a4 : Int32), tl_X3_owlIn_5 Q n M a1 a2 a3 a4 → gx_W p l e (headSpec (ws_ yX3_owlIn cX3_owlIn 5 (some .int)) rmX3_owlIn).room s m args below meth c 5 (tm_I D g cI cJ s M) 0 0 (MQ below (va_Qi Q (tm_B D g cI cJ s.heap.size) (tm_A g s.heap.size)) args s 0 0 (tm_A g s.heap.size)) 5 [(0, .ref (g 0)), (1, .int a1), (2, .int a2), (3, .int a3), (4, .int a4)] [] := by
  induction n with
  | zero => intro M a1 a2 a3 a4 h; exact False.elim h
  | succ n ih => intro M a1 a2 a3 a4 h; exact tb_X3_owlIn_5 C hK (show tj_X3_owlIn_5 M a1 a2 a3 a4 (fun M a1 a2 a3 a4 => tl_X3_owlIn_5 Q n M a1 a2 a3 a4) Q from h) (fun M a1 a2 a3 a4 h => ih M a1 a2 a3 a4 h)
def tw_X3_owlIn (M : MS) (a1 : Int32) (a2 : Int32) (Q : Int32 → MS → Prop) : Prop :=
  ∃ n : Nat, tl_X3_owlIn_5 Q n M a1 a2 (-1) 0
theorem tk_X3_owlIn {l : Launch} {D : va_G} {g : Nat → Nat} {cI cJ : ClassId} {sz : Nat} {M : MS} {a1 : Int32} {a2 : Int32} {Q : Int32 → MS → Prop} (h : tw_X3_owlIn M a1 a2 Q) : tm_Met l yX3_owlIn cX3_owlIn 5 (some .int) rmX3_owlIn [.int a1, .int a2] D g cI cJ sz M (va_Qi Q (tm_B D g cI cJ sz) (tm_A g sz)) := by
  refine tm_entry (by decide) (Nat.le_of_ble_eq_true rfl) (fun p e s m args below meth c hsz C hK => ?_)
  subst hsz
  unfold tw_X3_owlIn at h
  show gx_W p l e (headSpec (ws_ yX3_owlIn cX3_owlIn 5 (some .int)) rmX3_owlIn).room s m args below meth c 5 (tm_I D g cI cJ s M) 0 0 (MQ below (va_Qi Q (tm_B D g cI cJ s.heap.size) (tm_A g s.heap.size)) args s 0 0 (tm_A g s.heap.size)) 0 [(0, .ref (g 0)), (1, .int a1), (2, .int a2)] []
  refine gx_iconst (v := (-1)) C dX3_owlIn_0 (by decide) ?_
  refine gx_istore_n (lv' := [(3, .int ((-1))), (0, .ref (g 0)), (1, .int a1), (2, .int a2)]) C dX3_owlIn_1 rfl (by decide) rfl ?_
  refine gx_iconst (v := 0) C dX3_owlIn_2 (by decide) ?_
  refine gx_istore (lv' := [(4, .int 0), (3, .int ((-1))), (0, .ref (g 0)), (1, .int a1), (2, .int a2)]) C dX3_owlIn_3 (by decide) rfl ?_
  refine gx_sub [2, 3, 4, 1, 0] rfl ?_
  obtain ⟨n, h⟩ := h
  exact te_X3_owlIn_5 C hK n M a1 a2 (-1) 0 h
/-! many(I)I -/
abbrev rmX3_many : Room := { frames := 2, cells := 0, slots := 0, locals := 46 }
theorem dmX3_many : yX3_many.cls ≠ "java/lang/invoke/MethodHandle" ∧ yX3_many.cls ≠ "java/lang/invoke/VarHandle" ∧ (parseMethodDescriptor yX3_many.desc).map (fun d => d.parameters.length) = some 1 := by decide +kernel
def tw_X3_many (M : MS) (a1 : Int32) (Q : Int32 → MS → Prop) : Prop :=
  tw_X3_owlIn M a1 0 (fun r3 M3 => tw_X3_owlIn M3 a1 1 (fun r18 M18 => Q ((if r3 = (-1) then 0 else 1) + (if r18 = (-1) then 0 else 1)) M18))
theorem tk_X3_many {l : Launch} {D : va_G} {g : Nat → Nat} {cI cJ : ClassId} {sz : Nat} {M : MS} {a1 : Int32} {Q : Int32 → MS → Prop} (h : tw_X3_many M a1 Q) : tm_Met l yX3_many cX3_many 2 (some .int) rmX3_many [.int a1] D g cI cJ sz M (va_Qi Q (tm_B D g cI cJ sz) (tm_A g sz)) := by
  refine tm_entry (by decide) (Nat.le_of_ble_eq_true rfl) (fun p e s m args below meth c hsz C hK => ?_)
  subst hsz
  unfold tw_X3_many at h
  show gx_W p l e (headSpec (ws_ yX3_many cX3_many 2 (some .int)) rmX3_many).room s m args below meth c 2 (tm_I D g cI cJ s M) 0 0 (MQ below (va_Qi Q (tm_B D g cI cJ s.heap.size) (tm_A g s.heap.size)) args s 0 0 (tm_A g s.heap.size)) 0 [(0, .ref (g 0)), (1, .int a1)] []
  refine gx_aload_n C dX3_many_0 rfl 0 rfl ?_
  refine gx_iload_n C dX3_many_1 rfl 1 rfl ?_
  refine gx_iconst (v := 0) C dX3_many_2 (by decide) ?_
  refine tm_calli (rest := []) C hK (fun sz => tk_X3_owlIn h) (cwV 2 C.t (lw_V q2431 q2433 qs56 q130 q2434) rfl rfl rfl ⟨rfl, dmX3_owlIn⟩ ⟨Nat.le_of_ble_eq_true rfl, Nat.le_of_ble_eq_true rfl⟩) rfl rfl (Nat.le_of_ble_eq_true rfl) dX3_many_3 (fun r3 M3 h => ?_)
  refine gx_iconst (v := (-1)) C dX3_many_6 (by decide) ?_
  refine gx_phii (t := (if r3 = (-1) then 0 else 1)) (pc2 := 15) (lv2 := [(0, .ref (g 0)), (1, .int a1)]) (rest2 := []) (fun key => ?_) ?_
  · refine gx_icmp_ne (tgt := 14) C dX3_many_7 (by decide) (fun z1 => ?_) (fun z1 => ?_)
    · refine gx_iconst (v := 1) C dX3_many_14 (by decide) ?_
      exact gx_casti (if_neg z1) key
    · refine gx_iconst (v := 0) C dX3_many_10 (by decide) ?_
      refine gx_goto (tgt := 15) C dX3_many_11 (by decide) ?_
      exact gx_casti (if_pos z1) key
  refine gx_aload_n C dX3_many_15 rfl 0 rfl ?_
  refine gx_iload_n C dX3_many_16 rfl 1 rfl ?_
  refine gx_iconst (v := 1) C dX3_many_17 (by decide) ?_
  refine tm_calli (rest := [.int ((if r3 = (-1) then 0 else 1))]) C hK (fun sz => tk_X3_owlIn h) (cwV 2 C.t (lw_V q2431 q2433 qs56 q130 q2434) rfl rfl rfl ⟨rfl, dmX3_owlIn⟩ ⟨Nat.le_of_ble_eq_true rfl, Nat.le_of_ble_eq_true rfl⟩) rfl rfl (Nat.le_of_ble_eq_true rfl) dX3_many_18 (fun r18 M18 h => ?_)
  refine gx_iconst (v := (-1)) C dX3_many_21 (by decide) ?_
  refine gx_phii (t := (if r18 = (-1) then 0 else 1)) (pc2 := 30) (lv2 := [(0, .ref (g 0)), (1, .int a1)]) (rest2 := [.int ((if r3 = (-1) then 0 else 1))]) (fun key => ?_) ?_
  · refine gx_icmp_ne (tgt := 29) C dX3_many_22 (by decide) (fun z1 => ?_) (fun z1 => ?_)
    · refine gx_iconst (v := 1) C dX3_many_29 (by decide) ?_
      exact gx_casti (if_neg z1) key
    · refine gx_iconst (v := 0) C dX3_many_25 (by decide) ?_
      refine gx_goto (tgt := 30) C dX3_many_26 (by decide) ?_
      exact gx_casti (if_pos z1) key
  refine gx_iadd C dX3_many_30 ?_
  exact tm_iret C hK h dX3_many_31
/-! puts(III)V -/
abbrev rmX3_puts : Room := { frames := 0, cells := 0, slots := 0, locals := 0 }
theorem dmX3_puts : yX3_puts.cls ≠ "java/lang/invoke/MethodHandle" ∧ yX3_puts.cls ≠ "java/lang/invoke/VarHandle" ∧ (parseMethodDescriptor yX3_puts.desc).map (fun d => d.parameters.length) = some 3 := by decide +kernel
def tw_X3_puts (M : MS) (a1 : Int32) (a2 : Int32) (a3 : Int32) (Q : MS → Prop) : Prop :=
  (vp_in ((154 + (6 * a1)) + a2) 754 ∧ ∀ M15 : MS, M15 = ms_a M 0 ((154 + (6 * a1)) + a2) a3 → Q M15)
theorem tk_X3_puts {l : Launch} {D : va_G} {g : Nat → Nat} {cI cJ : ClassId} {sz : Nat} {M : MS} {a1 : Int32} {a2 : Int32} {a3 : Int32} {Q : MS → Prop} (h : tw_X3_puts M a1 a2 a3 Q) : tm_Met l yX3_puts cX3_puts 4 none rmX3_puts [.int a1, .int a2, .int a3] D g cI cJ sz M (va_Qv Q (tm_B D g cI cJ sz) (tm_A g sz)) := by
  refine tm_entry (by decide) (Nat.le_of_ble_eq_true rfl) (fun p e s m args below meth c hsz C hK => ?_)
  subst hsz
  unfold tw_X3_puts at h
  show gx_W p l e (headSpec (ws_ yX3_puts cX3_puts 4 none) rmX3_puts).room s m args below meth c 4 (tm_I D g cI cJ s M) 0 0 (MQ below (va_Qv Q (tm_B D g cI cJ s.heap.size) (tm_A g s.heap.size)) args s 0 0 (tm_A g s.heap.size)) 0 [(0, .ref (g 0)), (1, .int a1), (2, .int a2), (3, .int a3)] []
  refine gx_aload_n C dX3_puts_0 rfl 0 rfl ?_
  refine tm_get C hK 1 (by decide) q2301 rfl rfl dX3_puts_1 ?_
  refine gx_sipush (v := 154) C dX3_puts_4 (by decide) ?_
  refine gx_bipush (v := 6) C dX3_puts_7 (by decide) ?_
  refine gx_iload_n C dX3_puts_9 rfl 1 rfl ?_
  refine gx_imul C dX3_puts_10 ?_
  refine gx_iadd C dX3_puts_11 ?_
  refine gx_iload_n C dX3_puts_12 rfl 2 rfl ?_
  refine gx_iadd C dX3_puts_13 ?_
  refine gx_iload_n C dX3_puts_14 rfl 3 rfl ?_
  obtain ⟨g15, h⟩ := h
  refine tm_ast0 C hK g15 dX3_puts_15 (fun M15 e_M15 => ?_)
  replace h := h M15 e_M15
  exact tm_vret C hK h dX3_puts_16
/-! takeBox(I)I -/
abbrev rmX3_takeBox : Room := { frames := 3, cells := 0, slots := 0, locals := 67 }
theorem dmX3_takeBox : yX3_takeBox.cls ≠ "java/lang/invoke/MethodHandle" ∧ yX3_takeBox.cls ≠ "java/lang/invoke/VarHandle" ∧ (parseMethodDescriptor yX3_takeBox.desc).map (fun d => d.parameters.length) = some 1 := by decide +kernel
def tj_X3_takeBox_89 (M : MS) (a2 : Int32) (a3 : Int32) (k89 : MS → Int32 → Int32 → Prop) (Q : Int32 → MS → Prop) : Prop :=
  (vp_in 2 754 ∧ (((ms_r M 0 2) ≤ a3 → (vp_in 2 754 ∧ (vp_in (144 + (ms_r M 0 2)) 754 ∧ ∀ M142 : MS, M142 = ms_a M 0 (144 + (ms_r M 0 2)) 0 → Q a2 M142))) ∧ (¬ (ms_r M 0 2) ≤ a3 → (vp_in ((144 + a3) + 1) 754 ∧ (vp_in (144 + a3) 754 ∧ ∀ M120 : MS, M120 = ms_a M 0 (144 + a3) (ms_r M 0 ((144 + a3) + 1)) → k89 M120 a2 (a3 + 1))))))
theorem tb_X3_takeBox_89 {l : Launch} {p : Program} {e : Env} {s : State} {m : MethodId} {args : Array Value} {below : List Frame} {meth : Method} {c : Code} {D : va_G} {g : Nat → Nat} {cI cJ : ClassId} (C : gx_C p s m args meth c cX3_takeBox 5 (some .int) RX3) (hK : va_K D gcl [(cI, .int), (cJ, .long)] s) {M : MS} {a2 : Int32} {a3 : Int32} {k89 : MS → Int32 → Int32 → Prop} {Q : Int32 → MS → Prop} (h : tj_X3_takeBox_89 M a2 a3 k89 Q) (hk89 : ∀ (M : MS) (a2 : Int32) (a3 : Int32), k89 M a2 a3 → gx_W p l e (headSpec (ws_ yX3_takeBox cX3_takeBox 5 (some .int)) rmX3_takeBox).room s m args below meth c 5 (tm_I D g cI cJ s M) 0 0 (MQ below (va_Qi Q (tm_B D g cI cJ s.heap.size) (tm_A g s.heap.size)) args s 0 0 (tm_A g s.heap.size)) 89 [(0, .ref (g 0)), (2, .int a2), (3, .int a3)] []) : gx_W p l e (headSpec (ws_ yX3_takeBox cX3_takeBox 5 (some .int)) rmX3_takeBox).room s m args below meth c 5 (tm_I D g cI cJ s M) 0 0 (MQ below (va_Qi Q (tm_B D g cI cJ s.heap.size) (tm_A g s.heap.size)) args s 0 0 (tm_A g s.heap.size)) 89 [(0, .ref (g 0)), (2, .int a2), (3, .int a3)] [] := by
  unfold tj_X3_takeBox_89 at h
  refine gx_iload_n C dX3_takeBox_89 rfl 2 rfl ?_
  refine gx_aload_n C dX3_takeBox_90 rfl 0 rfl ?_
  refine tm_get C hK 1 (by decide) q2301 rfl rfl dX3_takeBox_91 ?_
  refine gx_iconst (v := 2) C dX3_takeBox_94 (by decide) ?_
  obtain ⟨g95, h⟩ := h
  refine tm_ald0 C hK g95 dX3_takeBox_95 ?_
  refine gx_icmp_ge (tgt := 127) C dX3_takeBox_96 (by decide) (fun z => ?_) (fun z => ?_)
  · replace h := h.1 z
    refine gx_aload_n C dX3_takeBox_127 rfl 0 rfl ?_
    refine tm_get C hK 1 (by decide) q2301 rfl rfl dX3_takeBox_128 ?_
    refine gx_sipush (v := 144) C dX3_takeBox_131 (by decide) ?_
    refine gx_aload_n C dX3_takeBox_134 rfl 0 rfl ?_
    refine tm_get C hK 1 (by decide) q2301 rfl rfl dX3_takeBox_135 ?_
    refine gx_iconst (v := 2) C dX3_takeBox_138 (by decide) ?_
    obtain ⟨g139, h⟩ := h
    refine tm_ald0 C hK g139 dX3_takeBox_139 ?_
    refine gx_iadd C dX3_takeBox_140 ?_
    refine gx_iconst (v := 0) C dX3_takeBox_141 (by decide) ?_
    obtain ⟨g142, h⟩ := h
    refine tm_ast0 C hK g142 dX3_takeBox_142 (fun M142 e_M142 => ?_)
    replace h := h M142 e_M142
    refine gx_iload_n C dX3_takeBox_143 rfl 1 rfl ?_
    exact tm_iret C hK h dX3_takeBox_144
  · replace h := h.2 z
    refine gx_aload_n C dX3_takeBox_99 rfl 0 rfl ?_
    refine tm_get C hK 1 (by decide) q2301 rfl rfl dX3_takeBox_100 ?_
    refine gx_sipush (v := 144) C dX3_takeBox_103 (by decide) ?_
    refine gx_iload_n C dX3_takeBox_106 rfl 2 rfl ?_
    refine gx_iadd C dX3_takeBox_107 ?_
    refine gx_aload_n C dX3_takeBox_108 rfl 0 rfl ?_
    refine tm_get C hK 1 (by decide) q2301 rfl rfl dX3_takeBox_109 ?_
    refine gx_sipush (v := 144) C dX3_takeBox_112 (by decide) ?_
    refine gx_iload_n C dX3_takeBox_115 rfl 2 rfl ?_
    refine gx_iadd C dX3_takeBox_116 ?_
    refine gx_iconst (v := 1) C dX3_takeBox_117 (by decide) ?_
    refine gx_iadd C dX3_takeBox_118 ?_
    obtain ⟨g119, h⟩ := h
    refine tm_ald0 C hK g119 dX3_takeBox_119 ?_
    obtain ⟨g120, h⟩ := h
    refine tm_ast0 C hK g120 dX3_takeBox_120 (fun M120 e_M120 => ?_)
    replace h := h M120 e_M120
    refine gx_iinc (v := a3 + 1) (k := 2) (lv' := [(3, .int (a3 + 1)), (0, .ref (g 0)), (2, .int a2)]) C dX3_takeBox_121 rfl rfl (by decide) rfl ?_
    refine gx_goto (tgt := 89) C dX3_takeBox_124 (by decide) ?_
    refine gx_sub [1, 2, 0] rfl ?_
    exact hk89 M120 a2 (a3 + 1) h
def tl_X3_takeBox_89 (Q : Int32 → MS → Prop) : Nat → MS → Int32 → Int32 → Prop
  | 0, _, _, _ => False
  | n + 1, M, a2, a3 => tj_X3_takeBox_89 M a2 a3 (fun M a2 a3 => tl_X3_takeBox_89 Q n M a2 a3) Q
theorem te_X3_takeBox_89 {l : Launch} {p : Program} {e : Env} {s : State} {m : MethodId} {args : Array Value} {below : List Frame} {meth : Method} {c : Code} {D : va_G} {g : Nat → Nat} {cI cJ : ClassId} (C : gx_C p s m args meth c cX3_takeBox 5 (some .int) RX3) (hK : va_K D gcl [(cI, .int), (cJ, .long)] s) {Q : Int32 → MS → Prop}  (n : Nat) : ∀ (M : MS) (a2 : Int32) (a3 : Int32), tl_X3_takeBox_89 Q n M a2 a3 → gx_W p l e (headSpec (ws_ yX3_takeBox cX3_takeBox 5 (some .int)) rmX3_takeBox).room s m args below meth c 5 (tm_I D g cI cJ s M) 0 0 (MQ below (va_Qi Q (tm_B D g cI cJ s.heap.size) (tm_A g s.heap.size)) args s 0 0 (tm_A g s.heap.size)) 89 [(0, .ref (g 0)), (2, .int a2), (3, .int a3)] [] := by
  induction n with
  | zero => intro M a2 a3 h; exact False.elim h
  | succ n ih => intro M a2 a3 h; exact tb_X3_takeBox_89 C hK (show tj_X3_takeBox_89 M a2 a3 (fun M a2 a3 => tl_X3_takeBox_89 Q n M a2 a3) Q from h) (fun M a2 a3 h => ih M a2 a3 h)
def tj_X3_takeBox_22 (M : MS) (a1 : Int32) (a2 : Int32) (a3 : Int32) (k22 : MS → Int32 → Int32 → Int32 → Prop) (Q : Int32 → MS → Prop) : Prop :=
  (vp_in 3 754 ∧ (((ms_r M 0 3) ≤ a3 → (vp_in 2 754 ∧ (vp_in 2 754 ∧ ∀ M86 : MS, M86 = ms_a M 0 2 ((ms_r M 0 2) - 1) → ∃ n : Nat, tl_X3_takeBox_89 Q n M86 a2 a1))) ∧ (¬ (ms_r M 0 3) ≤ a3 → tw_X3_of M a3 5 (fun r35 M35 => tw_X3_puts M35 a3 5 (if r35 = a1 then (-1) else (if r35 ≤ a1 then r35 else (r35 - 1))) (fun M68 => k22 M68 a1 a2 (a3 + 1))))))
theorem tb_X3_takeBox_22 {l : Launch} {p : Program} {e : Env} {s : State} {m : MethodId} {args : Array Value} {below : List Frame} {meth : Method} {c : Code} {D : va_G} {g : Nat → Nat} {cI cJ : ClassId} (C : gx_C p s m args meth c cX3_takeBox 5 (some .int) RX3) (hK : va_K D gcl [(cI, .int), (cJ, .long)] s) {M : MS} {a1 : Int32} {a2 : Int32} {a3 : Int32} {k22 : MS → Int32 → Int32 → Int32 → Prop} {Q : Int32 → MS → Prop} (h : tj_X3_takeBox_22 M a1 a2 a3 k22 Q) (hk22 : ∀ (M : MS) (a1 : Int32) (a2 : Int32) (a3 : Int32), k22 M a1 a2 a3 → gx_W p l e (headSpec (ws_ yX3_takeBox cX3_takeBox 5 (some .int)) rmX3_takeBox).room s m args below meth c 5 (tm_I D g cI cJ s M) 0 0 (MQ below (va_Qi Q (tm_B D g cI cJ s.heap.size) (tm_A g s.heap.size)) args s 0 0 (tm_A g s.heap.size)) 22 [(0, .ref (g 0)), (1, .int a1), (2, .int a2), (3, .int a3)] []) : gx_W p l e (headSpec (ws_ yX3_takeBox cX3_takeBox 5 (some .int)) rmX3_takeBox).room s m args below meth c 5 (tm_I D g cI cJ s M) 0 0 (MQ below (va_Qi Q (tm_B D g cI cJ s.heap.size) (tm_A g s.heap.size)) args s 0 0 (tm_A g s.heap.size)) 22 [(0, .ref (g 0)), (1, .int a1), (2, .int a2), (3, .int a3)] [] := by
  unfold tj_X3_takeBox_22 at h
  refine gx_iload_n C dX3_takeBox_22 rfl 3 rfl ?_
  refine gx_aload_n C dX3_takeBox_23 rfl 0 rfl ?_
  refine tm_get C hK 1 (by decide) q2301 rfl rfl dX3_takeBox_24 ?_
  refine gx_iconst (v := 3) C dX3_takeBox_27 (by decide) ?_
  obtain ⟨g28, h⟩ := h
  refine tm_ald0 C hK g28 dX3_takeBox_28 ?_
  refine gx_icmp_ge (tgt := 77) C dX3_takeBox_29 (by decide) (fun z => ?_) (fun z => ?_)
  · replace h := h.1 z
    refine gx_aload_n C dX3_takeBox_77 rfl 0 rfl ?_
    refine tm_get C hK 1 (by decide) q2301 rfl rfl dX3_takeBox_78 ?_
    refine gx_iconst (v := 2) C dX3_takeBox_81 (by decide) ?_
    refine gx_dup2_11 C dX3_takeBox_82 rfl rfl ?_
    obtain ⟨g83, h⟩ := h
    refine tm_ald0 C hK g83 dX3_takeBox_83 ?_
    refine gx_iconst (v := 1) C dX3_takeBox_84 (by decide) ?_
    refine gx_isub C dX3_takeBox_85 ?_
    obtain ⟨g86, h⟩ := h
    refine tm_ast0 C hK g86 dX3_takeBox_86 (fun M86 e_M86 => ?_)
    replace h := h M86 e_M86
    refine gx_iload_n C dX3_takeBox_87 rfl 1 rfl ?_
    refine gx_istore_n (lv' := [(3, .int a1), (0, .ref (g 0)), (1, .int a1), (2, .int a2)]) C dX3_takeBox_88 rfl (by decide) rfl ?_
    refine gx_sub [1, 3, 0] rfl ?_
    obtain ⟨n, h⟩ := h
    exact te_X3_takeBox_89 C hK n M86 a2 a1 h
  · replace h := h.2 z
    refine gx_aload_n C dX3_takeBox_32 rfl 0 rfl ?_
    refine gx_iload_n C dX3_takeBox_33 rfl 3 rfl ?_
    refine gx_iconst (v := 5) C dX3_takeBox_34 (by decide) ?_
    refine tm_calli (rest := []) C hK (fun sz => tk_X3_of h) (cwV 2 C.t (lw_V q2435 q2437 qs57 q130 q2438) rfl rfl rfl ⟨rfl, dmX3_of⟩ ⟨Nat.le_of_ble_eq_true rfl, Nat.le_of_ble_eq_true rfl⟩) rfl rfl (Nat.le_of_ble_eq_true rfl) dX3_takeBox_35 (fun r35 M35 h => ?_)
    refine gx_istore (lv' := [(4, .int r35), (0, .ref (g 0)), (1, .int a1), (2, .int a2), (3, .int a3)]) C dX3_takeBox_38 (by decide) rfl ?_
    refine gx_aload_n C dX3_takeBox_40 rfl 1 rfl ?_
    refine gx_iload_n C dX3_takeBox_41 rfl 4 rfl ?_
    refine gx_iconst (v := 5) C dX3_takeBox_42 (by decide) ?_
    refine gx_iload C dX3_takeBox_43 0 rfl ?_
    refine gx_iload_n C dX3_takeBox_45 rfl 2 rfl ?_
    refine gx_phii (t := (if r35 = a1 then (-1) else (if r35 ≤ a1 then r35 else (r35 - 1)))) (pc2 := 68) (lv2 := [(4, .int r35), (0, .ref (g 0)), (1, .int a1), (2, .int a2), (3, .int a3)]) (rest2 := [.int 5, .int a3, .ref (g 0)]) (fun key => ?_) ?_
    · refine gx_icmp_ne (tgt := 53) C dX3_takeBox_46 (by decide) (fun z1 => ?_) (fun z1 => ?_)
      · refine gx_iload C dX3_takeBox_53 0 rfl ?_
        refine gx_iload_n C dX3_takeBox_55 rfl 2 rfl ?_
        refine gx_icmp_le (tgt := 66) C dX3_takeBox_56 (by decide) (fun z2 => ?_) (fun z2 => ?_)
        · refine gx_iload C dX3_takeBox_66 0 rfl ?_
          exact gx_casti ((if_neg z1).trans (if_pos z2)) key
        · refine gx_iload C dX3_takeBox_59 0 rfl ?_
          refine gx_iconst (v := 1) C dX3_takeBox_61 (by decide) ?_
          refine gx_isub C dX3_takeBox_62 ?_
          refine gx_goto (tgt := 68) C dX3_takeBox_63 (by decide) ?_
          exact gx_casti ((if_neg z1).trans (if_neg z2)) key
      · refine gx_iconst (v := (-1)) C dX3_takeBox_49 (by decide) ?_
        refine gx_goto (tgt := 68) C dX3_takeBox_50 (by decide) ?_
        exact gx_casti (if_pos z1) key
    refine tm_callv (rest := []) C hK (fun sz => tk_X3_puts h) (cwV 3 C.t (lw_V q2439 q2441 qs58 q130 q2442) rfl rfl rfl ⟨rfl, dmX3_puts⟩ ⟨Nat.le_of_ble_eq_true rfl, Nat.le_of_ble_eq_true rfl⟩) rfl rfl (Nat.le_of_ble_eq_true rfl) dX3_takeBox_68 (fun M68 h => ?_)
    refine gx_iinc (v := a3 + 1) (k := 4) (lv' := [(3, .int (a3 + 1)), (4, .int r35), (0, .ref (g 0)), (1, .int a1), (2, .int a2)]) C dX3_takeBox_71 rfl rfl (by decide) rfl ?_
    refine gx_goto (tgt := 22) C dX3_takeBox_74 (by decide) ?_
    refine gx_sub [2, 3, 4, 0] rfl ?_
    exact hk22 M68 a1 a2 (a3 + 1) h
def tl_X3_takeBox_22 (Q : Int32 → MS → Prop) : Nat → MS → Int32 → Int32 → Int32 → Prop
  | 0, _, _, _, _ => False
  | n + 1, M, a1, a2, a3 => tj_X3_takeBox_22 M a1 a2 a3 (fun M a1 a2 a3 => tl_X3_takeBox_22 Q n M a1 a2 a3) Q
theorem te_X3_takeBox_22 {l : Launch} {p : Program} {e : Env} {s : State} {m : MethodId} {args : Array Value} {below : List Frame} {meth : Method} {c : Code} {D : va_G} {g : Nat → Nat} {cI cJ : ClassId} (C : gx_C p s m args meth c cX3_takeBox 5 (some .int) RX3) (hK : va_K D gcl [(cI, .int), (cJ, .long)] s) {Q : Int32 → MS → Prop}  (n : Nat) : ∀ (M : MS) (a1 : Int32) (a2 : Int32) (a3 : Int32), tl_X3_takeBox_22 Q n M a1 a2 a3 → gx_W p l e (headSpec (ws_ yX3_takeBox cX3_takeBox 5 (some .int)) rmX3_takeBox).room s m args below meth c 5 (tm_I D g cI cJ s M) 0 0 (MQ below (va_Qi Q (tm_B D g cI cJ s.heap.size) (tm_A g s.heap.size)) args s 0 0 (tm_A g s.heap.size)) 22 [(0, .ref (g 0)), (1, .int a1), (2, .int a2), (3, .int a3)] [] := by
  induction n with
  | zero => intro M a1 a2 a3 h; exact False.elim h
  | succ n ih => intro M a1 a2 a3 h; exact tb_X3_takeBox_22 C hK (show tj_X3_takeBox_22 M a1 a2 a3 (fun M a1 a2 a3 => tl_X3_takeBox_22 Q n M a1 a2 a3) Q from h) (fun M a1 a2 a3 h => ih M a1 a2 a3 h)
def tw_X3_takeBox (M : MS) (a1 : Int32) (Q : Int32 → MS → Prop) : Prop :=
  tw_X3_asksBox M a1 (fun r2 M2 => ((r2 = 0 → Q 0 M2) ∧ (¬ (r2 = 0) → tw_X3_record M2 (fun M11 => tw_X3_many M11 a1 (fun r16 M16 => ∃ n : Nat, tl_X3_takeBox_22 Q n M16 a1 r16 0)))))
theorem tk_X3_takeBox {l : Launch} {D : va_G} {g : Nat → Nat} {cI cJ : ClassId} {sz : Nat} {M : MS} {a1 : Int32} {Q : Int32 → MS → Prop} (h : tw_X3_takeBox M a1 Q) : tm_Met l yX3_takeBox cX3_takeBox 5 (some .int) rmX3_takeBox [.int a1] D g cI cJ sz M (va_Qi Q (tm_B D g cI cJ sz) (tm_A g sz)) := by
  refine tm_entry (by decide) (Nat.le_of_ble_eq_true rfl) (fun p e s m args below meth c hsz C hK => ?_)
  subst hsz
  unfold tw_X3_takeBox at h
  show gx_W p l e (headSpec (ws_ yX3_takeBox cX3_takeBox 5 (some .int)) rmX3_takeBox).room s m args below meth c 5 (tm_I D g cI cJ s M) 0 0 (MQ below (va_Qi Q (tm_B D g cI cJ s.heap.size) (tm_A g s.heap.size)) args s 0 0 (tm_A g s.heap.size)) 0 [(0, .ref (g 0)), (1, .int a1)] []
  refine gx_aload_n C dX3_takeBox_0 rfl 0 rfl ?_
  refine gx_iload_n C dX3_takeBox_1 rfl 1 rfl ?_
  refine tm_calli (rest := []) C hK (fun sz => tk_X3_asksBox h) (cwV 1 C.t (lw_V q2419 q2421 qs53 q130 q2422) rfl rfl rfl ⟨rfl, dmX3_asksBox⟩ ⟨Nat.le_of_ble_eq_true rfl, Nat.le_of_ble_eq_true rfl⟩) rfl rfl (Nat.le_of_ble_eq_true rfl) dX3_takeBox_2 (fun r2 M2 h => ?_)
  refine gx_if_ne (tgt := 10) C dX3_takeBox_5 (by decide) (fun z => ?_) (fun z => ?_)
  · replace h := h.2 z
    refine gx_aload_n C dX3_takeBox_10 rfl 0 rfl ?_
    refine tm_callv (rest := []) C hK (fun sz => tk_X3_record h) (cwV 0 C.t (lw_V q2371 q2373 qs47 q130 q2374) rfl rfl rfl ⟨rfl, dmX3_record⟩ ⟨Nat.le_of_ble_eq_true rfl, Nat.le_of_ble_eq_true rfl⟩) rfl rfl (Nat.le_of_ble_eq_true rfl) dX3_takeBox_11 (fun M11 h => ?_)
    refine gx_aload_n C dX3_takeBox_14 rfl 0 rfl ?_
    refine gx_iload_n C dX3_takeBox_15 rfl 1 rfl ?_
    refine tm_calli (rest := []) C hK (fun sz => tk_X3_many h) (cwV 1 C.t (lw_V q2427 q2429 qs55 q130 q2430) rfl rfl rfl ⟨rfl, dmX3_many⟩ ⟨Nat.le_of_ble_eq_true rfl, Nat.le_of_ble_eq_true rfl⟩) rfl rfl (Nat.le_of_ble_eq_true rfl) dX3_takeBox_16 (fun r16 M16 h => ?_)
    refine gx_istore_n (lv' := [(2, .int r16), (0, .ref (g 0)), (1, .int a1)]) C dX3_takeBox_19 rfl (by decide) rfl ?_
    refine gx_iconst (v := 0) C dX3_takeBox_20 (by decide) ?_
    refine gx_istore_n (lv' := [(3, .int 0), (2, .int r16), (0, .ref (g 0)), (1, .int a1)]) C dX3_takeBox_21 rfl (by decide) rfl ?_
    refine gx_sub [2, 3, 1, 0] rfl ?_
    obtain ⟨n, h⟩ := h
    exact te_X3_takeBox_22 C hK n M16 a1 r16 0 h
  · replace h := h.1 z
    refine gx_iconst (v := 0) C dX3_takeBox_8 (by decide) ?_
    exact tm_iret C hK h dX3_takeBox_9
/-! isSex(I)Z -/
abbrev rmX3_isSex : Room := { frames := 1, cells := 0, slots := 0, locals := 22 }
theorem dmX3_isSex : yX3_isSex.cls ≠ "java/lang/invoke/MethodHandle" ∧ yX3_isSex.cls ≠ "java/lang/invoke/VarHandle" ∧ (parseMethodDescriptor yX3_isSex.desc).map (fun d => d.parameters.length) = some 1 := by decide +kernel
def pw_X3_isSex (a0 : Int32) (Q : Int32 → Prop) : Prop :=
  pw_X3_within a0 0 1 (fun r3 => (narrow .boolean (.int r3) = .int r3 ∧ Q r3))
theorem pk_X3_isSex {l : Launch} {a0 : Int32} {Q : Int32 → Prop} (h : pw_X3_isSex a0 Q) : Met l yX3_isSex (ws_ yX3_isSex cX3_isSex 1 (some .boolean)) rmX3_isSex (va_Pc [.int a0] (fun _ => True)) (vp_Si Q) 0 0 (fun _ => False) := by
  refine ps_entry (by decide) (Nat.le_of_ble_eq_true rfl) (fun p e s m args below meth c C => ?_)
  unfold pw_X3_isSex at h
  show gx_W p l e (headSpec (ws_ yX3_isSex cX3_isSex 1 (some .boolean)) rmX3_isSex).room s m args below meth c 1 (ps_I s) 0 0 (MQ below (vp_Si Q) args s 0 0 (fun _ => False)) 0 [(0, .int a0)] []
  refine gx_iload_n C dX3_isSex_0 rfl 0 rfl ?_
  refine gx_iconst (v := 0) C dX3_isSex_1 (by decide) ?_
  refine gx_iconst (v := 1) C dX3_isSex_2 (by decide) ?_
  refine gx_calls_i (rest := []) C (pk_X3_within h) (va_cwS 3 C.t (lw_S q2360 q2361 q130 q2362) rfl rfl rfl dmX3_within ⟨Nat.le_of_ble_eq_true rfl, Nat.le_of_ble_eq_true rfl⟩) rfl rfl (Nat.le_of_ble_eq_true rfl) ⟨Nat.zero_le _, Nat.zero_le _⟩ dX3_isSex_3 (fun r3 h => ?_)
  obtain ⟨g6, h⟩ := h
  exact ps_zret C g6 h dX3_isSex_6
/-! canLetIn(II)Z -/
abbrev rmX3_canLetIn : Room := { frames := 2, cells := 0, slots := 0, locals := 46 }
theorem dmX3_canLetIn : yX3_canLetIn.cls ≠ "java/lang/invoke/MethodHandle" ∧ yX3_canLetIn.cls ≠ "java/lang/invoke/VarHandle" ∧ (parseMethodDescriptor yX3_canLetIn.desc).map (fun d => d.parameters.length) = some 2 := by decide +kernel
def tj_X3_canLetIn_26 (M : MS) (s0 : Int32) (Q : Int32 → MS → Prop) : Prop :=
  (narrow .boolean (.int s0) = .int s0 ∧ Q s0 M)
theorem tb_X3_canLetIn_26 {l : Launch} {p : Program} {e : Env} {s : State} {m : MethodId} {args : Array Value} {below : List Frame} {meth : Method} {c : Code} {D : va_G} {g : Nat → Nat} {cI cJ : ClassId} (C : gx_C p s m args meth c cX3_canLetIn 3 (some .boolean) RX3) (hK : va_K D gcl [(cI, .int), (cJ, .long)] s) {M : MS} {s0 : Int32} {Q : Int32 → MS → Prop} (h : tj_X3_canLetIn_26 M s0 Q)  : gx_W p l e (headSpec (ws_ yX3_canLetIn cX3_canLetIn 3 (some .boolean)) rmX3_canLetIn).room s m args below meth c 3 (tm_I D g cI cJ s M) 0 0 (MQ below (va_Qi Q (tm_B D g cI cJ s.heap.size) (tm_A g s.heap.size)) args s 0 0 (tm_A g s.heap.size)) 26 [] [.int s0] := by
  unfold tj_X3_canLetIn_26 at h
  obtain ⟨g26, h⟩ := h
  exact tm_zret C hK g26 h dX3_canLetIn_26
def tj_X3_canLetIn_25 (M : MS) (Q : Int32 → MS → Prop) : Prop :=
  tj_X3_canLetIn_26 M 0 Q
theorem tb_X3_canLetIn_25 {l : Launch} {p : Program} {e : Env} {s : State} {m : MethodId} {args : Array Value} {below : List Frame} {meth : Method} {c : Code} {D : va_G} {g : Nat → Nat} {cI cJ : ClassId} (C : gx_C p s m args meth c cX3_canLetIn 3 (some .boolean) RX3) (hK : va_K D gcl [(cI, .int), (cJ, .long)] s) {M : MS} {Q : Int32 → MS → Prop} (h : tj_X3_canLetIn_25 M Q)  : gx_W p l e (headSpec (ws_ yX3_canLetIn cX3_canLetIn 3 (some .boolean)) rmX3_canLetIn).room s m args below meth c 3 (tm_I D g cI cJ s M) 0 0 (MQ below (va_Qi Q (tm_B D g cI cJ s.heap.size) (tm_A g s.heap.size)) args s 0 0 (tm_A g s.heap.size)) 25 [] [] := by
  unfold tj_X3_canLetIn_25 at h
  refine gx_iconst (v := 0) C dX3_canLetIn_25 (by decide) ?_
  exact tb_X3_canLetIn_26 C hK h
def tw_X3_canLetIn (M : MS) (a1 : Int32) (a2 : Int32) (Q : Int32 → MS → Prop) : Prop :=
  (vp_in 3 754 ∧ ((40 ≤ (ms_r M 0 3) → tj_X3_canLetIn_25 M Q) ∧ (¬ (40 ≤ (ms_r M 0 3)) → tw_X3_owlIn M a1 a2 (fun r14 M14 => ((r14 = (-1) → tj_X3_canLetIn_26 M14 1 Q) ∧ (¬ (r14 = (-1)) → tj_X3_canLetIn_25 M14 Q))))))
theorem tk_X3_canLetIn {l : Launch} {D : va_G} {g : Nat → Nat} {cI cJ : ClassId} {sz : Nat} {M : MS} {a1 : Int32} {a2 : Int32} {Q : Int32 → MS → Prop} (h : tw_X3_canLetIn M a1 a2 Q) : tm_Met l yX3_canLetIn cX3_canLetIn 3 (some .boolean) rmX3_canLetIn [.int a1, .int a2] D g cI cJ sz M (va_Qi Q (tm_B D g cI cJ sz) (tm_A g sz)) := by
  refine tm_entry (by decide) (Nat.le_of_ble_eq_true rfl) (fun p e s m args below meth c hsz C hK => ?_)
  subst hsz
  unfold tw_X3_canLetIn at h
  show gx_W p l e (headSpec (ws_ yX3_canLetIn cX3_canLetIn 3 (some .boolean)) rmX3_canLetIn).room s m args below meth c 3 (tm_I D g cI cJ s M) 0 0 (MQ below (va_Qi Q (tm_B D g cI cJ s.heap.size) (tm_A g s.heap.size)) args s 0 0 (tm_A g s.heap.size)) 0 [(0, .ref (g 0)), (1, .int a1), (2, .int a2)] []
  refine gx_aload_n C dX3_canLetIn_0 rfl 0 rfl ?_
  refine tm_get C hK 1 (by decide) q2301 rfl rfl dX3_canLetIn_1 ?_
  refine gx_iconst (v := 3) C dX3_canLetIn_4 (by decide) ?_
  obtain ⟨g5, h⟩ := h
  refine tm_ald0 C hK g5 dX3_canLetIn_5 ?_
  refine gx_bipush (v := 40) C dX3_canLetIn_6 (by decide) ?_
  refine gx_icmp_ge (tgt := 25) C dX3_canLetIn_8 (by decide) (fun z => ?_) (fun z => ?_)
  · replace h := h.1 z
    refine gx_sub [] rfl ?_
    exact tb_X3_canLetIn_25 C hK h
  · replace h := h.2 z
    refine gx_aload_n C dX3_canLetIn_11 rfl 0 rfl ?_
    refine gx_iload_n C dX3_canLetIn_12 rfl 1 rfl ?_
    refine gx_iload_n C dX3_canLetIn_13 rfl 2 rfl ?_
    refine tm_calli (rest := []) C hK (fun sz => tk_X3_owlIn h) (cwV 2 C.t (lw_V q2431 q2433 qs56 q130 q2434) rfl rfl rfl ⟨rfl, dmX3_owlIn⟩ ⟨Nat.le_of_ble_eq_true rfl, Nat.le_of_ble_eq_true rfl⟩) rfl rfl (Nat.le_of_ble_eq_true rfl) dX3_canLetIn_14 (fun r14 M14 h => ?_)
    refine gx_iconst (v := (-1)) C dX3_canLetIn_17 (by decide) ?_
    refine gx_icmp_ne (tgt := 25) C dX3_canLetIn_18 (by decide) (fun z => ?_) (fun z => ?_)
    · replace h := h.2 z
      refine gx_sub [] rfl ?_
      exact tb_X3_canLetIn_25 C hK h
    · replace h := h.1 z
      refine gx_iconst (v := 1) C dX3_canLetIn_21 (by decide) ?_
      refine gx_goto (tgt := 26) C dX3_canLetIn_22 (by decide) ?_
      refine gx_sub [] rfl ?_
      exact tb_X3_canLetIn_26 C hK h
/-! adds(IIIII)I -/
abbrev rmX3_adds : Room := { frames := 1, cells := 0, slots := 0, locals := 23 }
theorem dmX3_adds : yX3_adds.cls ≠ "java/lang/invoke/MethodHandle" ∧ yX3_adds.cls ≠ "java/lang/invoke/VarHandle" ∧ (parseMethodDescriptor yX3_adds.desc).map (fun d => d.parameters.length) = some 5 := by decide +kernel
def tw_X3_adds (M : MS) (a1 : Int32) (a2 : Int32) (a3 : Int32) (a4 : Int32) (a5 : Int32) (Q : Int32 → MS → Prop) : Prop :=
  (vp_in 3 754 ∧ (vp_in 4 754 ∧ (vp_in 3 754 ∧ (vp_in 3 754 ∧ ∀ M25 : MS, M25 = ms_a M 0 3 ((ms_r M 0 3) + 1) → (vp_in 4 754 ∧ (vp_in 4 754 ∧ ∀ M35 : MS, M35 = ms_a M25 0 4 ((ms_r M25 0 4) + 1) → tw_X3_puts M35 (ms_r M 0 3) 0 (ms_r M 0 4) (fun M42 => tw_X3_puts M42 (ms_r M 0 3) 1 a1 (fun M50 => tw_X3_puts M50 (ms_r M 0 3) 2 a2 (fun M58 => tw_X3_puts M58 (ms_r M 0 3) 3 a3 (fun M66 => tw_X3_puts M66 (ms_r M 0 3) 4 a4 (fun M75 => tw_X3_puts M75 (ms_r M 0 3) 5 a5 (fun M84 => Q (ms_r M 0 4) M84))))))))))))
theorem tk_X3_adds {l : Launch} {D : va_G} {g : Nat → Nat} {cI cJ : ClassId} {sz : Nat} {M : MS} {a1 : Int32} {a2 : Int32} {a3 : Int32} {a4 : Int32} {a5 : Int32} {Q : Int32 → MS → Prop} (h : tw_X3_adds M a1 a2 a3 a4 a5 Q) : tm_Met l yX3_adds cX3_adds 8 (some .int) rmX3_adds [.int a1, .int a2, .int a3, .int a4, .int a5] D g cI cJ sz M (va_Qi Q (tm_B D g cI cJ sz) (tm_A g sz)) := by
  refine tm_entry (by decide) (Nat.le_of_ble_eq_true rfl) (fun p e s m args below meth c hsz C hK => ?_)
  subst hsz
  unfold tw_X3_adds at h
  show gx_W p l e (headSpec (ws_ yX3_adds cX3_adds 8 (some .int)) rmX3_adds).room s m args below meth c 8 (tm_I D g cI cJ s M) 0 0 (MQ below (va_Qi Q (tm_B D g cI cJ s.heap.size) (tm_A g s.heap.size)) args s 0 0 (tm_A g s.heap.size)) 0 [(0, .ref (g 0)), (1, .int a1), (2, .int a2), (3, .int a3), (4, .int a4), (5, .int a5)] []
  refine gx_aload_n C dX3_adds_0 rfl 0 rfl ?_
  refine tm_get C hK 1 (by decide) q2301 rfl rfl dX3_adds_1 ?_
  refine gx_iconst (v := 3) C dX3_adds_4 (by decide) ?_
  obtain ⟨g5, h⟩ := h
  refine tm_ald0 C hK g5 dX3_adds_5 ?_
  refine gx_istore (lv' := [(6, .int (ms_r M 0 3)), (0, .ref (g 0)), (1, .int a1), (2, .int a2), (3, .int a3), (4, .int a4), (5, .int a5)]) C dX3_adds_6 (by decide) rfl ?_
  refine gx_aload_n C dX3_adds_8 rfl 1 rfl ?_
  refine tm_get C hK 1 (by decide) q2301 rfl rfl dX3_adds_9 ?_
  refine gx_iconst (v := 4) C dX3_adds_12 (by decide) ?_
  obtain ⟨g13, h⟩ := h
  refine tm_ald0 C hK g13 dX3_adds_13 ?_
  refine gx_istore (lv' := [(7, .int (ms_r M 0 4)), (6, .int (ms_r M 0 3)), (0, .ref (g 0)), (1, .int a1), (2, .int a2), (3, .int a3), (4, .int a4), (5, .int a5)]) C dX3_adds_14 (by decide) rfl ?_
  refine gx_aload_n C dX3_adds_16 rfl 2 rfl ?_
  refine tm_get C hK 1 (by decide) q2301 rfl rfl dX3_adds_17 ?_
  refine gx_iconst (v := 3) C dX3_adds_20 (by decide) ?_
  refine gx_dup2_11 C dX3_adds_21 rfl rfl ?_
  obtain ⟨g22, h⟩ := h
  refine tm_ald0 C hK g22 dX3_adds_22 ?_
  refine gx_iconst (v := 1) C dX3_adds_23 (by decide) ?_
  refine gx_iadd C dX3_adds_24 ?_
  obtain ⟨g25, h⟩ := h
  refine tm_ast0 C hK g25 dX3_adds_25 (fun M25 e_M25 => ?_)
  replace h := h M25 e_M25
  refine gx_aload_n C dX3_adds_26 rfl 2 rfl ?_
  refine tm_get C hK 1 (by decide) q2301 rfl rfl dX3_adds_27 ?_
  refine gx_iconst (v := 4) C dX3_adds_30 (by decide) ?_
  refine gx_dup2_11 C dX3_adds_31 rfl rfl ?_
  obtain ⟨g32, h⟩ := h
  refine tm_ald0 C hK g32 dX3_adds_32 ?_
  refine gx_iconst (v := 1) C dX3_adds_33 (by decide) ?_
  refine gx_iadd C dX3_adds_34 ?_
  obtain ⟨g35, h⟩ := h
  refine tm_ast0 C hK g35 dX3_adds_35 (fun M35 e_M35 => ?_)
  replace h := h M35 e_M35
  refine gx_aload_n C dX3_adds_36 rfl 2 rfl ?_
  refine gx_iload C dX3_adds_37 1 rfl ?_
  refine gx_iconst (v := 0) C dX3_adds_39 (by decide) ?_
  refine gx_iload C dX3_adds_40 0 rfl ?_
  refine tm_callv (rest := []) C hK (fun sz => tk_X3_puts h) (cwV 3 C.t (lw_V q2439 q2441 qs58 q130 q2442) rfl rfl rfl ⟨rfl, dmX3_puts⟩ ⟨Nat.le_of_ble_eq_true rfl, Nat.le_of_ble_eq_true rfl⟩) rfl rfl (Nat.le_of_ble_eq_true rfl) dX3_adds_42 (fun M42 h => ?_)
  refine gx_aload_n C dX3_adds_45 rfl 2 rfl ?_
  refine gx_iload C dX3_adds_46 1 rfl ?_
  refine gx_iconst (v := 1) C dX3_adds_48 (by decide) ?_
  refine gx_iload_n C dX3_adds_49 rfl 3 rfl ?_
  refine tm_callv (rest := []) C hK (fun sz => tk_X3_puts h) (cwV 3 C.t (lw_V q2439 q2441 qs58 q130 q2442) rfl rfl rfl ⟨rfl, dmX3_puts⟩ ⟨Nat.le_of_ble_eq_true rfl, Nat.le_of_ble_eq_true rfl⟩) rfl rfl (Nat.le_of_ble_eq_true rfl) dX3_adds_50 (fun M50 h => ?_)
  refine gx_aload_n C dX3_adds_53 rfl 2 rfl ?_
  refine gx_iload C dX3_adds_54 1 rfl ?_
  refine gx_iconst (v := 2) C dX3_adds_56 (by decide) ?_
  refine gx_iload_n C dX3_adds_57 rfl 4 rfl ?_
  refine tm_callv (rest := []) C hK (fun sz => tk_X3_puts h) (cwV 3 C.t (lw_V q2439 q2441 qs58 q130 q2442) rfl rfl rfl ⟨rfl, dmX3_puts⟩ ⟨Nat.le_of_ble_eq_true rfl, Nat.le_of_ble_eq_true rfl⟩) rfl rfl (Nat.le_of_ble_eq_true rfl) dX3_adds_58 (fun M58 h => ?_)
  refine gx_aload_n C dX3_adds_61 rfl 2 rfl ?_
  refine gx_iload C dX3_adds_62 1 rfl ?_
  refine gx_iconst (v := 3) C dX3_adds_64 (by decide) ?_
  refine gx_iload_n C dX3_adds_65 rfl 5 rfl ?_
  refine tm_callv (rest := []) C hK (fun sz => tk_X3_puts h) (cwV 3 C.t (lw_V q2439 q2441 qs58 q130 q2442) rfl rfl rfl ⟨rfl, dmX3_puts⟩ ⟨Nat.le_of_ble_eq_true rfl, Nat.le_of_ble_eq_true rfl⟩) rfl rfl (Nat.le_of_ble_eq_true rfl) dX3_adds_66 (fun M66 h => ?_)
  refine gx_aload_n C dX3_adds_69 rfl 2 rfl ?_
  refine gx_iload C dX3_adds_70 1 rfl ?_
  refine gx_iconst (v := 4) C dX3_adds_72 (by decide) ?_
  refine gx_iload C dX3_adds_73 6 rfl ?_
  refine tm_callv (rest := []) C hK (fun sz => tk_X3_puts h) (cwV 3 C.t (lw_V q2439 q2441 qs58 q130 q2442) rfl rfl rfl ⟨rfl, dmX3_puts⟩ ⟨Nat.le_of_ble_eq_true rfl, Nat.le_of_ble_eq_true rfl⟩) rfl rfl (Nat.le_of_ble_eq_true rfl) dX3_adds_75 (fun M75 h => ?_)
  refine gx_aload_n C dX3_adds_78 rfl 2 rfl ?_
  refine gx_iload C dX3_adds_79 1 rfl ?_
  refine gx_iconst (v := 5) C dX3_adds_81 (by decide) ?_
  refine gx_iload C dX3_adds_82 7 rfl ?_
  refine tm_callv (rest := []) C hK (fun sz => tk_X3_puts h) (cwV 3 C.t (lw_V q2439 q2441 qs58 q130 q2442) rfl rfl rfl ⟨rfl, dmX3_puts⟩ ⟨Nat.le_of_ble_eq_true rfl, Nat.le_of_ble_eq_true rfl⟩) rfl rfl (Nat.le_of_ble_eq_true rfl) dX3_adds_84 (fun M84 h => ?_)
  refine gx_iload C dX3_adds_87 0 rfl ?_
  exact tm_iret C hK h dX3_adds_89
/-! letsIn(III)I -/
abbrev rmX3_letsIn : Room := { frames := 2, cells := 0, slots := 0, locals := 50 }
theorem dmX3_letsIn : yX3_letsIn.cls ≠ "java/lang/invoke/MethodHandle" ∧ yX3_letsIn.cls ≠ "java/lang/invoke/VarHandle" ∧ (parseMethodDescriptor yX3_letsIn.desc).map (fun d => d.parameters.length) = some 3 := by decide +kernel
def tw_X3_letsIn (M : MS) (a1 : Int32) (a2 : Int32) (a3 : Int32) (Q : Int32 → MS → Prop) : Prop :=
  (vp_in 14 754 ∧ (vp_in 14 754 ∧ ∀ M10 : MS, M10 = ms_a M 0 14 ((ms_r M 0 14) + 1) → tw_X3_adds M10 a2 a3 (-1) (-1) a1 (fun r17 M17 => Q r17 M17)))
theorem tk_X3_letsIn {l : Launch} {D : va_G} {g : Nat → Nat} {cI cJ : ClassId} {sz : Nat} {M : MS} {a1 : Int32} {a2 : Int32} {a3 : Int32} {Q : Int32 → MS → Prop} (h : tw_X3_letsIn M a1 a2 a3 Q) : tm_Met l yX3_letsIn cX3_letsIn 4 (some .int) rmX3_letsIn [.int a1, .int a2, .int a3] D g cI cJ sz M (va_Qi Q (tm_B D g cI cJ sz) (tm_A g sz)) := by
  refine tm_entry (by decide) (Nat.le_of_ble_eq_true rfl) (fun p e s m args below meth c hsz C hK => ?_)
  subst hsz
  unfold tw_X3_letsIn at h
  show gx_W p l e (headSpec (ws_ yX3_letsIn cX3_letsIn 4 (some .int)) rmX3_letsIn).room s m args below meth c 4 (tm_I D g cI cJ s M) 0 0 (MQ below (va_Qi Q (tm_B D g cI cJ s.heap.size) (tm_A g s.heap.size)) args s 0 0 (tm_A g s.heap.size)) 0 [(0, .ref (g 0)), (1, .int a1), (2, .int a2), (3, .int a3)] []
  refine gx_aload_n C dX3_letsIn_0 rfl 0 rfl ?_
  refine tm_get C hK 1 (by decide) q2301 rfl rfl dX3_letsIn_1 ?_
  refine gx_bipush (v := 14) C dX3_letsIn_4 (by decide) ?_
  refine gx_dup2_11 C dX3_letsIn_6 rfl rfl ?_
  obtain ⟨g7, h⟩ := h
  refine tm_ald0 C hK g7 dX3_letsIn_7 ?_
  refine gx_iconst (v := 1) C dX3_letsIn_8 (by decide) ?_
  refine gx_iadd C dX3_letsIn_9 ?_
  obtain ⟨g10, h⟩ := h
  refine tm_ast0 C hK g10 dX3_letsIn_10 (fun M10 e_M10 => ?_)
  replace h := h M10 e_M10
  refine gx_aload_n C dX3_letsIn_11 rfl 0 rfl ?_
  refine gx_iload_n C dX3_letsIn_12 rfl 2 rfl ?_
  refine gx_iload_n C dX3_letsIn_13 rfl 3 rfl ?_
  refine gx_iconst (v := (-1)) C dX3_letsIn_14 (by decide) ?_
  refine gx_iconst (v := (-1)) C dX3_letsIn_15 (by decide) ?_
  refine gx_iload_n C dX3_letsIn_16 rfl 1 rfl ?_
  refine tm_calli (rest := []) C hK (fun sz => tk_X3_adds h) (cwV 5 C.t (lw_V q2458 q2460 qs61 q130 q2461) rfl rfl rfl ⟨rfl, dmX3_adds⟩ ⟨Nat.le_of_ble_eq_true rfl, Nat.le_of_ble_eq_true rfl⟩) rfl rfl (Nat.le_of_ble_eq_true rfl) dX3_letsIn_17 (fun r17 M17 h => ?_)
  exact tm_iret C hK h dX3_letsIn_20
/-! letIn(III)I -/
abbrev rmX3_letIn : Room := { frames := 3, cells := 0, slots := 0, locals := 73 }
theorem dmX3_letIn : yX3_letIn.cls ≠ "java/lang/invoke/MethodHandle" ∧ yX3_letIn.cls ≠ "java/lang/invoke/VarHandle" ∧ (parseMethodDescriptor yX3_letIn.desc).map (fun d => d.parameters.length) = some 3 := by decide +kernel
def tj_X3_letIn_48 (M : MS) (a1 : Int32) (a2 : Int32) (a3 : Int32) (s1 : Int32) (Q : Int32 → MS → Prop) : Prop :=
  (∀ M48 : MS, M48 = ms_s M 0 s1 → (((M48.1 0) ≤ 0 → tw_X3_record M48 (fun M61 => tw_X3_letsIn M61 a1 a2 a3 (fun r68 M68 => Q r68 M68))) ∧ (¬ (M48.1 0) ≤ 0 → Q 0 M48)))
theorem tb_X3_letIn_48 {l : Launch} {p : Program} {e : Env} {s : State} {m : MethodId} {args : Array Value} {below : List Frame} {meth : Method} {c : Code} {D : va_G} {g : Nat → Nat} {cI cJ : ClassId} (C : gx_C p s m args meth c cX3_letIn 4 (some .int) RX3) (hK : va_K D gcl [(cI, .int), (cJ, .long)] s) {M : MS} {a1 : Int32} {a2 : Int32} {a3 : Int32} {s1 : Int32} {Q : Int32 → MS → Prop} (h : tj_X3_letIn_48 M a1 a2 a3 s1 Q)  : gx_W p l e (headSpec (ws_ yX3_letIn cX3_letIn 4 (some .int)) rmX3_letIn).room s m args below meth c 4 (tm_I D g cI cJ s M) 0 0 (MQ below (va_Qi Q (tm_B D g cI cJ s.heap.size) (tm_A g s.heap.size)) args s 0 0 (tm_A g s.heap.size)) 48 [(0, .ref (g 0)), (1, .int a1), (2, .int a2), (3, .int a3)] [.int s1, .ref (g 0)] := by
  unfold tj_X3_letIn_48 at h
  refine tm_put0 C hK q2300 dX3_letIn_48 (fun M48 e_M48 => ?_)
  replace h := h M48 e_M48
  refine gx_aload_n C dX3_letIn_51 rfl 0 rfl ?_
  refine tm_get C hK 0 (by decide) q2300 rfl rfl dX3_letIn_52 ?_
  refine gx_if_le (tgt := 60) C dX3_letIn_55 (by decide) (fun z => ?_) (fun z => ?_)
  · replace h := h.1 z
    refine gx_aload_n C dX3_letIn_60 rfl 0 rfl ?_
    refine tm_callv (rest := []) C hK (fun sz => tk_X3_record h) (cwV 0 C.t (lw_V q2371 q2373 qs47 q130 q2374) rfl rfl rfl ⟨rfl, dmX3_record⟩ ⟨Nat.le_of_ble_eq_true rfl, Nat.le_of_ble_eq_true rfl⟩) rfl rfl (Nat.le_of_ble_eq_true rfl) dX3_letIn_61 (fun M61 h => ?_)
    refine gx_aload_n C dX3_letIn_64 rfl 0 rfl ?_
    refine gx_iload_n C dX3_letIn_65 rfl 1 rfl ?_
    refine gx_iload_n C dX3_letIn_66 rfl 2 rfl ?_
    refine gx_iload_n C dX3_letIn_67 rfl 3 rfl ?_
    refine tm_calli (rest := []) C hK (fun sz => tk_X3_letsIn h) (cwV 3 C.t (lw_V q2454 q2456 qs60 q130 q2457) rfl rfl rfl ⟨rfl, dmX3_letsIn⟩ ⟨Nat.le_of_ble_eq_true rfl, Nat.le_of_ble_eq_true rfl⟩) rfl rfl (Nat.le_of_ble_eq_true rfl) dX3_letIn_68 (fun r68 M68 h => ?_)
    exact tm_iret C hK h dX3_letIn_71
  · replace h := h.2 z
    refine gx_iconst (v := 0) C dX3_letIn_58 (by decide) ?_
    exact tm_iret C hK h dX3_letIn_59
def tj_X3_letIn_30 (M : MS) (a1 : Int32) (a2 : Int32) (a3 : Int32) (Q : Int32 → MS → Prop) : Prop :=
  tj_X3_letIn_48 M a1 a2 a3 2 Q
theorem tb_X3_letIn_30 {l : Launch} {p : Program} {e : Env} {s : State} {m : MethodId} {args : Array Value} {below : List Frame} {meth : Method} {c : Code} {D : va_G} {g : Nat → Nat} {cI cJ : ClassId} (C : gx_C p s m args meth c cX3_letIn 4 (some .int) RX3) (hK : va_K D gcl [(cI, .int), (cJ, .long)] s) {M : MS} {a1 : Int32} {a2 : Int32} {a3 : Int32} {Q : Int32 → MS → Prop} (h : tj_X3_letIn_30 M a1 a2 a3 Q)  : gx_W p l e (headSpec (ws_ yX3_letIn cX3_letIn 4 (some .int)) rmX3_letIn).room s m args below meth c 4 (tm_I D g cI cJ s M) 0 0 (MQ below (va_Qi Q (tm_B D g cI cJ s.heap.size) (tm_A g s.heap.size)) args s 0 0 (tm_A g s.heap.size)) 30 [(0, .ref (g 0)), (1, .int a1), (2, .int a2), (3, .int a3)] [.ref (g 0)] := by
  unfold tj_X3_letIn_30 at h
  refine gx_iconst (v := 2) C dX3_letIn_30 (by decide) ?_
  refine gx_goto (tgt := 48) C dX3_letIn_31 (by decide) ?_
  exact tb_X3_letIn_48 C hK h
def tw_X3_letIn (M : MS) (a1 : Int32) (a2 : Int32) (a3 : Int32) (Q : Int32 → MS → Prop) : Prop :=
  tw_X3_isBox M a1 (fun r3 M3 => ((r3 = 0 → tj_X3_letIn_48 M3 a1 a2 a3 1 Q) ∧ (¬ (r3 = 0) → pw_X3_isSex a2 (fun r14 => ((r14 = 0 → tj_X3_letIn_30 M3 a1 a2 a3 Q) ∧ (¬ (r14 = 0) → pw_X3_within a3 0 9 (fun r24 => ((r24 = 0 → tj_X3_letIn_30 M3 a1 a2 a3 Q) ∧ (¬ (r24 = 0) → tw_X3_canLetIn M3 a1 a2 (fun r37 M37 => tj_X3_letIn_48 M37 a1 a2 a3 ((if r37 = 0 then 3 else 0)) Q))))))))))
theorem tk_X3_letIn {l : Launch} {D : va_G} {g : Nat → Nat} {cI cJ : ClassId} {sz : Nat} {M : MS} {a1 : Int32} {a2 : Int32} {a3 : Int32} {Q : Int32 → MS → Prop} (h : tw_X3_letIn M a1 a2 a3 Q) : tm_Met l yX3_letIn cX3_letIn 4 (some .int) rmX3_letIn [.int a1, .int a2, .int a3] D g cI cJ sz M (va_Qi Q (tm_B D g cI cJ sz) (tm_A g sz)) := by
  refine tm_entry (by decide) (Nat.le_of_ble_eq_true rfl) (fun p e s m args below meth c hsz C hK => ?_)
  subst hsz
  unfold tw_X3_letIn at h
  show gx_W p l e (headSpec (ws_ yX3_letIn cX3_letIn 4 (some .int)) rmX3_letIn).room s m args below meth c 4 (tm_I D g cI cJ s M) 0 0 (MQ below (va_Qi Q (tm_B D g cI cJ s.heap.size) (tm_A g s.heap.size)) args s 0 0 (tm_A g s.heap.size)) 0 [(0, .ref (g 0)), (1, .int a1), (2, .int a2), (3, .int a3)] []
  refine gx_aload_n C dX3_letIn_0 rfl 0 rfl ?_
  refine gx_aload_n C dX3_letIn_1 rfl 0 rfl ?_
  refine gx_iload_n C dX3_letIn_2 rfl 1 rfl ?_
  refine tm_calli (rest := [.ref (g 0)]) C hK (fun sz => tk_X3_isBox h) (cwV 1 C.t (lw_V q2423 q2425 qs54 q130 q2426) rfl rfl rfl ⟨rfl, dmX3_isBox⟩ ⟨Nat.le_of_ble_eq_true rfl, Nat.le_of_ble_eq_true rfl⟩) rfl rfl (Nat.le_of_ble_eq_true rfl) dX3_letIn_3 (fun r3 M3 h => ?_)
  refine gx_if_ne (tgt := 13) C dX3_letIn_6 (by decide) (fun z => ?_) (fun z => ?_)
  · replace h := h.2 z
    refine gx_iload_n C dX3_letIn_13 rfl 2 rfl ?_
    refine gx_calls_i (rest := [.ref (g 0)]) C (pk_X3_isSex h) (va_cwS 1 C.t (lw_S q2447 q2448 q130 q2449) rfl rfl rfl dmX3_isSex ⟨Nat.le_of_ble_eq_true rfl, Nat.le_of_ble_eq_true rfl⟩) rfl rfl (Nat.le_of_ble_eq_true rfl) ⟨Nat.zero_le _, Nat.zero_le _⟩ dX3_letIn_14 (fun r14 h => ?_)
    refine gx_if_eq (tgt := 30) C dX3_letIn_17 (by decide) (fun z => ?_) (fun z => ?_)
    · replace h := h.1 z
      exact tb_X3_letIn_30 C hK h
    · replace h := h.2 z
      refine gx_iload_n C dX3_letIn_20 rfl 3 rfl ?_
      refine gx_iconst (v := 0) C dX3_letIn_21 (by decide) ?_
      refine gx_bipush (v := 9) C dX3_letIn_22 (by decide) ?_
      refine gx_calls_i (rest := [.ref (g 0)]) C (pk_X3_within h) (va_cwS 3 C.t (lw_S q2360 q2361 q130 q2362) rfl rfl rfl dmX3_within ⟨Nat.le_of_ble_eq_true rfl, Nat.le_of_ble_eq_true rfl⟩) rfl rfl (Nat.le_of_ble_eq_true rfl) ⟨Nat.zero_le _, Nat.zero_le _⟩ dX3_letIn_24 (fun r24 h => ?_)
      refine gx_if_ne (tgt := 34) C dX3_letIn_27 (by decide) (fun z => ?_) (fun z => ?_)
      · replace h := h.2 z
        refine gx_aload_n C dX3_letIn_34 rfl 0 rfl ?_
        refine gx_iload_n C dX3_letIn_35 rfl 1 rfl ?_
        refine gx_iload_n C dX3_letIn_36 rfl 2 rfl ?_
        refine tm_calli (rest := [.ref (g 0)]) C hK (fun sz => tk_X3_canLetIn h) (cwV 2 C.t (lw_V q2450 q2452 qs59 q130 q2453) rfl rfl rfl ⟨rfl, dmX3_canLetIn⟩ ⟨Nat.le_of_ble_eq_true rfl, Nat.le_of_ble_eq_true rfl⟩) rfl rfl (Nat.le_of_ble_eq_true rfl) dX3_letIn_37 (fun r37 M37 h => ?_)
        refine gx_phii (t := (if r37 = 0 then 3 else 0)) (pc2 := 48) (lv2 := [(0, .ref (g 0)), (1, .int a1), (2, .int a2), (3, .int a3)]) (rest2 := [.ref (g 0)]) (fun key => ?_) ?_
        · refine gx_if_eq (tgt := 47) C dX3_letIn_40 (by decide) (fun z1 => ?_) (fun z1 => ?_)
          · refine gx_iconst (v := 3) C dX3_letIn_47 (by decide) ?_
            exact gx_casti (if_pos z1) key
          · refine gx_iconst (v := 0) C dX3_letIn_43 (by decide) ?_
            refine gx_goto (tgt := 48) C dX3_letIn_44 (by decide) ?_
            exact gx_casti (if_neg z1) key
        exact tb_X3_letIn_48 C hK h
      · replace h := h.1 z
        exact tb_X3_letIn_30 C hK h
  · replace h := h.1 z
    refine gx_iconst (v := 1) C dX3_letIn_9 (by decide) ?_
    refine gx_goto (tgt := 48) C dX3_letIn_10 (by decide) ?_
    exact tb_X3_letIn_48 C hK h
/-! placeOf(I)I -/
abbrev rmX3_placeOf : Room := { frames := 1, cells := 0, slots := 0, locals := 22 }
theorem dmX3_placeOf : yX3_placeOf.cls ≠ "java/lang/invoke/MethodHandle" ∧ yX3_placeOf.cls ≠ "java/lang/invoke/VarHandle" ∧ (parseMethodDescriptor yX3_placeOf.desc).map (fun d => d.parameters.length) = some 1 := by decide +kernel
def tj_X3_placeOf_4 (M : MS) (a1 : Int32) (a2 : Int32) (a3 : Int32) (k4 : MS → Int32 → Int32 → Int32 → Prop) (Q : Int32 → MS → Prop) : Prop :=
  (vp_in 3 754 ∧ (((ms_r M 0 3) ≤ a3 → Q a2 M) ∧ (¬ (ms_r M 0 3) ≤ a3 → tw_X3_of M a3 0 (fun r17 M17 => k4 M17 a1 ((if r17 = a1 then a3 else a2)) (a3 + 1)))))
theorem tb_X3_placeOf_4 {l : Launch} {p : Program} {e : Env} {s : State} {m : MethodId} {args : Array Value} {below : List Frame} {meth : Method} {c : Code} {D : va_G} {g : Nat → Nat} {cI cJ : ClassId} (C : gx_C p s m args meth c cX3_placeOf 4 (some .int) RX3) (hK : va_K D gcl [(cI, .int), (cJ, .long)] s) {M : MS} {a1 : Int32} {a2 : Int32} {a3 : Int32} {k4 : MS → Int32 → Int32 → Int32 → Prop} {Q : Int32 → MS → Prop} (h : tj_X3_placeOf_4 M a1 a2 a3 k4 Q) (hk4 : ∀ (M : MS) (a1 : Int32) (a2 : Int32) (a3 : Int32), k4 M a1 a2 a3 → gx_W p l e (headSpec (ws_ yX3_placeOf cX3_placeOf 4 (some .int)) rmX3_placeOf).room s m args below meth c 4 (tm_I D g cI cJ s M) 0 0 (MQ below (va_Qi Q (tm_B D g cI cJ s.heap.size) (tm_A g s.heap.size)) args s 0 0 (tm_A g s.heap.size)) 4 [(0, .ref (g 0)), (1, .int a1), (2, .int a2), (3, .int a3)] []) : gx_W p l e (headSpec (ws_ yX3_placeOf cX3_placeOf 4 (some .int)) rmX3_placeOf).room s m args below meth c 4 (tm_I D g cI cJ s M) 0 0 (MQ below (va_Qi Q (tm_B D g cI cJ s.heap.size) (tm_A g s.heap.size)) args s 0 0 (tm_A g s.heap.size)) 4 [(0, .ref (g 0)), (1, .int a1), (2, .int a2), (3, .int a3)] [] := by
  unfold tj_X3_placeOf_4 at h
  refine gx_iload_n C dX3_placeOf_4 rfl 3 rfl ?_
  refine gx_aload_n C dX3_placeOf_5 rfl 0 rfl ?_
  refine tm_get C hK 1 (by decide) q2301 rfl rfl dX3_placeOf_6 ?_
  refine gx_iconst (v := 3) C dX3_placeOf_9 (by decide) ?_
  obtain ⟨g10, h⟩ := h
  refine tm_ald0 C hK g10 dX3_placeOf_10 ?_
  refine gx_icmp_ge (tgt := 36) C dX3_placeOf_11 (by decide) (fun z => ?_) (fun z => ?_)
  · replace h := h.1 z
    refine gx_iload_n C dX3_placeOf_36 rfl 2 rfl ?_
    exact tm_iret C hK h dX3_placeOf_37
  · replace h := h.2 z
    refine gx_aload_n C dX3_placeOf_14 rfl 0 rfl ?_
    refine gx_iload_n C dX3_placeOf_15 rfl 3 rfl ?_
    refine gx_iconst (v := 0) C dX3_placeOf_16 (by decide) ?_
    refine tm_calli (rest := []) C hK (fun sz => tk_X3_of h) (cwV 2 C.t (lw_V q2435 q2437 qs57 q130 q2438) rfl rfl rfl ⟨rfl, dmX3_of⟩ ⟨Nat.le_of_ble_eq_true rfl, Nat.le_of_ble_eq_true rfl⟩) rfl rfl (Nat.le_of_ble_eq_true rfl) dX3_placeOf_17 (fun r17 M17 h => ?_)
    refine gx_iload_n C dX3_placeOf_20 rfl 1 rfl ?_
    refine gx_phii (t := (if r17 = a1 then a3 else a2)) (pc2 := 29) (lv2 := [(0, .ref (g 0)), (1, .int a1), (2, .int a2), (3, .int a3)]) (rest2 := []) (fun key => ?_) ?_
    · refine gx_icmp_ne (tgt := 28) C dX3_placeOf_21 (by decide) (fun z1 => ?_) (fun z1 => ?_)
      · refine gx_iload_n C dX3_placeOf_28 rfl 2 rfl ?_
        exact gx_casti (if_neg z1) key
      · refine gx_iload_n C dX3_placeOf_24 rfl 3 rfl ?_
        refine gx_goto (tgt := 29) C dX3_placeOf_25 (by decide) ?_
        exact gx_casti (if_pos z1) key
    refine gx_istore_n (lv' := [(2, .int ((if r17 = a1 then a3 else a2))), (0, .ref (g 0)), (1, .int a1), (3, .int a3)]) C dX3_placeOf_29 rfl (by decide) rfl ?_
    refine gx_iinc (v := a3 + 1) (k := 3) (lv' := [(3, .int (a3 + 1)), (2, .int ((if r17 = a1 then a3 else a2))), (0, .ref (g 0)), (1, .int a1)]) C dX3_placeOf_30 rfl rfl (by decide) rfl ?_
    refine gx_goto (tgt := 4) C dX3_placeOf_33 (by decide) ?_
    refine gx_sub [2, 3, 1, 0] rfl ?_
    exact hk4 M17 a1 ((if r17 = a1 then a3 else a2)) (a3 + 1) h
def tl_X3_placeOf_4 (Q : Int32 → MS → Prop) : Nat → MS → Int32 → Int32 → Int32 → Prop
  | 0, _, _, _, _ => False
  | n + 1, M, a1, a2, a3 => tj_X3_placeOf_4 M a1 a2 a3 (fun M a1 a2 a3 => tl_X3_placeOf_4 Q n M a1 a2 a3) Q
theorem te_X3_placeOf_4 {l : Launch} {p : Program} {e : Env} {s : State} {m : MethodId} {args : Array Value} {below : List Frame} {meth : Method} {c : Code} {D : va_G} {g : Nat → Nat} {cI cJ : ClassId} (C : gx_C p s m args meth c cX3_placeOf 4 (some .int) RX3) (hK : va_K D gcl [(cI, .int), (cJ, .long)] s) {Q : Int32 → MS → Prop}  (n : Nat) : ∀ (M : MS) (a1 : Int32) (a2 : Int32) (a3 : Int32), tl_X3_placeOf_4 Q n M a1 a2 a3 → gx_W p l e (headSpec (ws_ yX3_placeOf cX3_placeOf 4 (some .int)) rmX3_placeOf).room s m args below meth c 4 (tm_I D g cI cJ s M) 0 0 (MQ below (va_Qi Q (tm_B D g cI cJ s.heap.size) (tm_A g s.heap.size)) args s 0 0 (tm_A g s.heap.size)) 4 [(0, .ref (g 0)), (1, .int a1), (2, .int a2), (3, .int a3)] [] := by
  induction n with
  | zero => intro M a1 a2 a3 h; exact False.elim h
  | succ n ih => intro M a1 a2 a3 h; exact tb_X3_placeOf_4 C hK (show tj_X3_placeOf_4 M a1 a2 a3 (fun M a1 a2 a3 => tl_X3_placeOf_4 Q n M a1 a2 a3) Q from h) (fun M a1 a2 a3 h => ih M a1 a2 a3 h)
def tw_X3_placeOf (M : MS) (a1 : Int32) (Q : Int32 → MS → Prop) : Prop :=
  ∃ n : Nat, tl_X3_placeOf_4 Q n M a1 (-1) 0
theorem tk_X3_placeOf {l : Launch} {D : va_G} {g : Nat → Nat} {cI cJ : ClassId} {sz : Nat} {M : MS} {a1 : Int32} {Q : Int32 → MS → Prop} (h : tw_X3_placeOf M a1 Q) : tm_Met l yX3_placeOf cX3_placeOf 4 (some .int) rmX3_placeOf [.int a1] D g cI cJ sz M (va_Qi Q (tm_B D g cI cJ sz) (tm_A g sz)) := by
  refine tm_entry (by decide) (Nat.le_of_ble_eq_true rfl) (fun p e s m args below meth c hsz C hK => ?_)
  subst hsz
  unfold tw_X3_placeOf at h
  show gx_W p l e (headSpec (ws_ yX3_placeOf cX3_placeOf 4 (some .int)) rmX3_placeOf).room s m args below meth c 4 (tm_I D g cI cJ s M) 0 0 (MQ below (va_Qi Q (tm_B D g cI cJ s.heap.size) (tm_A g s.heap.size)) args s 0 0 (tm_A g s.heap.size)) 0 [(0, .ref (g 0)), (1, .int a1)] []
  refine gx_iconst (v := (-1)) C dX3_placeOf_0 (by decide) ?_
  refine gx_istore_n (lv' := [(2, .int ((-1))), (0, .ref (g 0)), (1, .int a1)]) C dX3_placeOf_1 rfl (by decide) rfl ?_
  refine gx_iconst (v := 0) C dX3_placeOf_2 (by decide) ?_
  refine gx_istore_n (lv' := [(3, .int 0), (2, .int ((-1))), (0, .ref (g 0)), (1, .int a1)]) C dX3_placeOf_3 rfl (by decide) rfl ?_
  refine gx_sub [2, 3, 1, 0] rfl ?_
  obtain ⟨n, h⟩ := h
  exact te_X3_placeOf_4 C hK n M a1 (-1) 0 h
/-! drops(I)V -/
abbrev rmX3_drops : Room := { frames := 1, cells := 0, slots := 0, locals := 23 }
theorem dmX3_drops : yX3_drops.cls ≠ "java/lang/invoke/MethodHandle" ∧ yX3_drops.cls ≠ "java/lang/invoke/VarHandle" ∧ (parseMethodDescriptor yX3_drops.desc).map (fun d => d.parameters.length) = some 1 := by decide +kernel
def tj_X3_drops_115 (M : MS) (a3 : Int32) (k115 : MS → Int32 → Prop) (Q : MS → Prop) : Prop :=
  ((6 ≤ a3 → Q M) ∧ (¬ (6 ≤ a3) → (vp_in 3 754 ∧ tw_X3_puts M (ms_r M 0 3) a3 0 (fun M130 => k115 M130 (a3 + 1)))))
theorem tb_X3_drops_115 {l : Launch} {p : Program} {e : Env} {s : State} {m : MethodId} {args : Array Value} {below : List Frame} {meth : Method} {c : Code} {D : va_G} {g : Nat → Nat} {cI cJ : ClassId} (C : gx_C p s m args meth c cX3_drops 4 none RX3) (hK : va_K D gcl [(cI, .int), (cJ, .long)] s) {M : MS} {a3 : Int32} {k115 : MS → Int32 → Prop} {Q : MS → Prop} (h : tj_X3_drops_115 M a3 k115 Q) (hk115 : ∀ (M : MS) (a3 : Int32), k115 M a3 → gx_W p l e (headSpec (ws_ yX3_drops cX3_drops 4 none) rmX3_drops).room s m args below meth c 4 (tm_I D g cI cJ s M) 0 0 (MQ below (va_Qv Q (tm_B D g cI cJ s.heap.size) (tm_A g s.heap.size)) args s 0 0 (tm_A g s.heap.size)) 115 [(0, .ref (g 0)), (3, .int a3)] []) : gx_W p l e (headSpec (ws_ yX3_drops cX3_drops 4 none) rmX3_drops).room s m args below meth c 4 (tm_I D g cI cJ s M) 0 0 (MQ below (va_Qv Q (tm_B D g cI cJ s.heap.size) (tm_A g s.heap.size)) args s 0 0 (tm_A g s.heap.size)) 115 [(0, .ref (g 0)), (3, .int a3)] [] := by
  unfold tj_X3_drops_115 at h
  refine gx_iload_n C dX3_drops_115 rfl 1 rfl ?_
  refine gx_bipush (v := 6) C dX3_drops_116 (by decide) ?_
  refine gx_icmp_ge (tgt := 139) C dX3_drops_118 (by decide) (fun z => ?_) (fun z => ?_)
  · replace h := h.1 z
    exact tm_vret C hK h dX3_drops_139
  · replace h := h.2 z
    refine gx_aload_n C dX3_drops_121 rfl 0 rfl ?_
    refine gx_aload_n C dX3_drops_122 rfl 0 rfl ?_
    refine tm_get C hK 1 (by decide) q2301 rfl rfl dX3_drops_123 ?_
    refine gx_iconst (v := 3) C dX3_drops_126 (by decide) ?_
    obtain ⟨g127, h⟩ := h
    refine tm_ald0 C hK g127 dX3_drops_127 ?_
    refine gx_iload_n C dX3_drops_128 rfl 1 rfl ?_
    refine gx_iconst (v := 0) C dX3_drops_129 (by decide) ?_
    refine tm_callv (rest := []) C hK (fun sz => tk_X3_puts h) (cwV 3 C.t (lw_V q2439 q2441 qs58 q130 q2442) rfl rfl rfl ⟨rfl, dmX3_puts⟩ ⟨Nat.le_of_ble_eq_true rfl, Nat.le_of_ble_eq_true rfl⟩) rfl rfl (Nat.le_of_ble_eq_true rfl) dX3_drops_130 (fun M130 h => ?_)
    refine gx_iinc (v := a3 + 1) (k := 1) (lv' := [(3, .int (a3 + 1)), (0, .ref (g 0))]) C dX3_drops_133 rfl rfl (by decide) rfl ?_
    refine gx_goto (tgt := 115) C dX3_drops_136 (by decide) ?_
    refine gx_sub [1, 0] rfl ?_
    exact hk115 M130 (a3 + 1) h
def tl_X3_drops_115 (Q : MS → Prop) : Nat → MS → Int32 → Prop
  | 0, _, _ => False
  | n + 1, M, a3 => tj_X3_drops_115 M a3 (fun M a3 => tl_X3_drops_115 Q n M a3) Q
theorem te_X3_drops_115 {l : Launch} {p : Program} {e : Env} {s : State} {m : MethodId} {args : Array Value} {below : List Frame} {meth : Method} {c : Code} {D : va_G} {g : Nat → Nat} {cI cJ : ClassId} (C : gx_C p s m args meth c cX3_drops 4 none RX3) (hK : va_K D gcl [(cI, .int), (cJ, .long)] s) {Q : MS → Prop}  (n : Nat) : ∀ (M : MS) (a3 : Int32), tl_X3_drops_115 Q n M a3 → gx_W p l e (headSpec (ws_ yX3_drops cX3_drops 4 none) rmX3_drops).room s m args below meth c 4 (tm_I D g cI cJ s M) 0 0 (MQ below (va_Qv Q (tm_B D g cI cJ s.heap.size) (tm_A g s.heap.size)) args s 0 0 (tm_A g s.heap.size)) 115 [(0, .ref (g 0)), (3, .int a3)] [] := by
  induction n with
  | zero => intro M a3 h; exact False.elim h
  | succ n ih => intro M a3 h; exact tb_X3_drops_115 C hK (show tj_X3_drops_115 M a3 (fun M a3 => tl_X3_drops_115 Q n M a3) Q from h) (fun M a3 h => ih M a3 h)
def tj_X3_drops_75 (M : MS) (a3 : Int32) (k75 : MS → Int32 → Prop) (Q : MS → Prop) : Prop :=
  (vp_in 3 754 ∧ (((154 + (6 * (ms_r M 0 3))) ≤ a3 → ∃ n : Nat, tl_X3_drops_115 Q n M 0) ∧ (¬ (154 + (6 * (ms_r M 0 3))) ≤ a3 → (vp_in (a3 + 6) 754 ∧ (vp_in a3 754 ∧ ∀ M106 : MS, M106 = ms_a M 0 a3 (ms_r M 0 (a3 + 6)) → k75 M106 (a3 + 1))))))
theorem tb_X3_drops_75 {l : Launch} {p : Program} {e : Env} {s : State} {m : MethodId} {args : Array Value} {below : List Frame} {meth : Method} {c : Code} {D : va_G} {g : Nat → Nat} {cI cJ : ClassId} (C : gx_C p s m args meth c cX3_drops 4 none RX3) (hK : va_K D gcl [(cI, .int), (cJ, .long)] s) {M : MS} {a3 : Int32} {k75 : MS → Int32 → Prop} {Q : MS → Prop} (h : tj_X3_drops_75 M a3 k75 Q) (hk75 : ∀ (M : MS) (a3 : Int32), k75 M a3 → gx_W p l e (headSpec (ws_ yX3_drops cX3_drops 4 none) rmX3_drops).room s m args below meth c 4 (tm_I D g cI cJ s M) 0 0 (MQ below (va_Qv Q (tm_B D g cI cJ s.heap.size) (tm_A g s.heap.size)) args s 0 0 (tm_A g s.heap.size)) 75 [(0, .ref (g 0)), (3, .int a3)] []) : gx_W p l e (headSpec (ws_ yX3_drops cX3_drops 4 none) rmX3_drops).room s m args below meth c 4 (tm_I D g cI cJ s M) 0 0 (MQ below (va_Qv Q (tm_B D g cI cJ s.heap.size) (tm_A g s.heap.size)) args s 0 0 (tm_A g s.heap.size)) 75 [(0, .ref (g 0)), (3, .int a3)] [] := by
  unfold tj_X3_drops_75 at h
  refine gx_iload_n C dX3_drops_75 rfl 1 rfl ?_
  refine gx_sipush (v := 154) C dX3_drops_76 (by decide) ?_
  refine gx_bipush (v := 6) C dX3_drops_79 (by decide) ?_
  refine gx_aload_n C dX3_drops_81 rfl 0 rfl ?_
  refine tm_get C hK 1 (by decide) q2301 rfl rfl dX3_drops_82 ?_
  refine gx_iconst (v := 3) C dX3_drops_85 (by decide) ?_
  obtain ⟨g86, h⟩ := h
  refine tm_ald0 C hK g86 dX3_drops_86 ?_
  refine gx_imul C dX3_drops_87 ?_
  refine gx_iadd C dX3_drops_88 ?_
  refine gx_icmp_ge (tgt := 113) C dX3_drops_89 (by decide) (fun z => ?_) (fun z => ?_)
  · replace h := h.1 z
    refine gx_iconst (v := 0) C dX3_drops_113 (by decide) ?_
    refine gx_istore_n (lv' := [(3, .int 0), (0, .ref (g 0))]) C dX3_drops_114 rfl (by decide) rfl ?_
    refine gx_sub [1, 0] rfl ?_
    obtain ⟨n, h⟩ := h
    exact te_X3_drops_115 C hK n M 0 h
  · replace h := h.2 z
    refine gx_aload_n C dX3_drops_92 rfl 0 rfl ?_
    refine tm_get C hK 1 (by decide) q2301 rfl rfl dX3_drops_93 ?_
    refine gx_iload_n C dX3_drops_96 rfl 1 rfl ?_
    refine gx_aload_n C dX3_drops_97 rfl 0 rfl ?_
    refine tm_get C hK 1 (by decide) q2301 rfl rfl dX3_drops_98 ?_
    refine gx_iload_n C dX3_drops_101 rfl 1 rfl ?_
    refine gx_bipush (v := 6) C dX3_drops_102 (by decide) ?_
    refine gx_iadd C dX3_drops_104 ?_
    obtain ⟨g105, h⟩ := h
    refine tm_ald0 C hK g105 dX3_drops_105 ?_
    obtain ⟨g106, h⟩ := h
    refine tm_ast0 C hK g106 dX3_drops_106 (fun M106 e_M106 => ?_)
    replace h := h M106 e_M106
    refine gx_iinc (v := a3 + 1) (k := 1) (lv' := [(3, .int (a3 + 1)), (0, .ref (g 0))]) C dX3_drops_107 rfl rfl (by decide) rfl ?_
    refine gx_goto (tgt := 75) C dX3_drops_110 (by decide) ?_
    refine gx_sub [1, 0] rfl ?_
    exact hk75 M106 (a3 + 1) h
def tl_X3_drops_75 (Q : MS → Prop) : Nat → MS → Int32 → Prop
  | 0, _, _ => False
  | n + 1, M, a3 => tj_X3_drops_75 M a3 (fun M a3 => tl_X3_drops_75 Q n M a3) Q
theorem te_X3_drops_75 {l : Launch} {p : Program} {e : Env} {s : State} {m : MethodId} {args : Array Value} {below : List Frame} {meth : Method} {c : Code} {D : va_G} {g : Nat → Nat} {cI cJ : ClassId} (C : gx_C p s m args meth c cX3_drops 4 none RX3) (hK : va_K D gcl [(cI, .int), (cJ, .long)] s) {Q : MS → Prop}  (n : Nat) : ∀ (M : MS) (a3 : Int32), tl_X3_drops_75 Q n M a3 → gx_W p l e (headSpec (ws_ yX3_drops cX3_drops 4 none) rmX3_drops).room s m args below meth c 4 (tm_I D g cI cJ s M) 0 0 (MQ below (va_Qv Q (tm_B D g cI cJ s.heap.size) (tm_A g s.heap.size)) args s 0 0 (tm_A g s.heap.size)) 75 [(0, .ref (g 0)), (3, .int a3)] [] := by
  induction n with
  | zero => intro M a3 h; exact False.elim h
  | succ n ih => intro M a3 h; exact tb_X3_drops_75 C hK (show tj_X3_drops_75 M a3 (fun M a3 => tl_X3_drops_75 Q n M a3) Q from h) (fun M a3 h => ih M a3 h)
def tj_X3_drops_56 (M : MS) (a1 : Int32) (Q : MS → Prop) : Prop :=
  (vp_in 3 754 ∧ (vp_in 3 754 ∧ ∀ M65 : MS, M65 = ms_a M 0 3 ((ms_r M 0 3) - 1) → ∃ n : Nat, tl_X3_drops_75 Q n M65 (154 + (6 * a1))))
theorem tb_X3_drops_56 {l : Launch} {p : Program} {e : Env} {s : State} {m : MethodId} {args : Array Value} {below : List Frame} {meth : Method} {c : Code} {D : va_G} {g : Nat → Nat} {cI cJ : ClassId} (C : gx_C p s m args meth c cX3_drops 4 none RX3) (hK : va_K D gcl [(cI, .int), (cJ, .long)] s) {M : MS} {a1 : Int32} {Q : MS → Prop} (h : tj_X3_drops_56 M a1 Q)  : gx_W p l e (headSpec (ws_ yX3_drops cX3_drops 4 none) rmX3_drops).room s m args below meth c 4 (tm_I D g cI cJ s M) 0 0 (MQ below (va_Qv Q (tm_B D g cI cJ s.heap.size) (tm_A g s.heap.size)) args s 0 0 (tm_A g s.heap.size)) 56 [(0, .ref (g 0)), (1, .int a1)] [] := by
  unfold tj_X3_drops_56 at h
  refine gx_aload_n C dX3_drops_56 rfl 0 rfl ?_
  refine tm_get C hK 1 (by decide) q2301 rfl rfl dX3_drops_57 ?_
  refine gx_iconst (v := 3) C dX3_drops_60 (by decide) ?_
  refine gx_dup2_11 C dX3_drops_61 rfl rfl ?_
  obtain ⟨g62, h⟩ := h
  refine tm_ald0 C hK g62 dX3_drops_62 ?_
  refine gx_iconst (v := 1) C dX3_drops_63 (by decide) ?_
  refine gx_isub C dX3_drops_64 ?_
  obtain ⟨g65, h⟩ := h
  refine tm_ast0 C hK g65 dX3_drops_65 (fun M65 e_M65 => ?_)
  replace h := h M65 e_M65
  refine gx_sipush (v := 154) C dX3_drops_66 (by decide) ?_
  refine gx_bipush (v := 6) C dX3_drops_69 (by decide) ?_
  refine gx_iload_n C dX3_drops_71 rfl 1 rfl ?_
  refine gx_imul C dX3_drops_72 ?_
  refine gx_iadd C dX3_drops_73 ?_
  refine gx_istore_n (lv' := [(3, .int (154 + (6 * a1))), (0, .ref (g 0)), (1, .int a1)]) C dX3_drops_74 rfl (by decide) rfl ?_
  refine gx_sub [1, 0] rfl ?_
  obtain ⟨n, h⟩ := h
  exact te_X3_drops_75 C hK n M65 (154 + (6 * a1)) h
def tj_X3_drops_22 (M : MS) (a1 : Int32) (a2 : Int32) (a3 : Int32) (k22 : MS → Int32 → Int32 → Int32 → Prop) (Q : MS → Prop) : Prop :=
  ((5 ≤ a3 → tj_X3_drops_56 M a1 Q) ∧ (¬ (5 ≤ a3) → tw_X3_of M a1 a3 (fun r46 M46 => (vp_in ((394 + (5 * (a2 - a2 / 60 * 60))) + a3) 754 ∧ ∀ M49 : MS, M49 = ms_a M46 0 ((394 + (5 * (a2 - a2 / 60 * 60))) + a3) r46 → k22 M49 a1 a2 (a3 + 1)))))
theorem tb_X3_drops_22 {l : Launch} {p : Program} {e : Env} {s : State} {m : MethodId} {args : Array Value} {below : List Frame} {meth : Method} {c : Code} {D : va_G} {g : Nat → Nat} {cI cJ : ClassId} (C : gx_C p s m args meth c cX3_drops 4 none RX3) (hK : va_K D gcl [(cI, .int), (cJ, .long)] s) {M : MS} {a1 : Int32} {a2 : Int32} {a3 : Int32} {k22 : MS → Int32 → Int32 → Int32 → Prop} {Q : MS → Prop} (h : tj_X3_drops_22 M a1 a2 a3 k22 Q) (hk22 : ∀ (M : MS) (a1 : Int32) (a2 : Int32) (a3 : Int32), k22 M a1 a2 a3 → gx_W p l e (headSpec (ws_ yX3_drops cX3_drops 4 none) rmX3_drops).room s m args below meth c 4 (tm_I D g cI cJ s M) 0 0 (MQ below (va_Qv Q (tm_B D g cI cJ s.heap.size) (tm_A g s.heap.size)) args s 0 0 (tm_A g s.heap.size)) 22 [(0, .ref (g 0)), (1, .int a1), (2, .int a2), (3, .int a3)] []) : gx_W p l e (headSpec (ws_ yX3_drops cX3_drops 4 none) rmX3_drops).room s m args below meth c 4 (tm_I D g cI cJ s M) 0 0 (MQ below (va_Qv Q (tm_B D g cI cJ s.heap.size) (tm_A g s.heap.size)) args s 0 0 (tm_A g s.heap.size)) 22 [(0, .ref (g 0)), (1, .int a1), (2, .int a2), (3, .int a3)] [] := by
  unfold tj_X3_drops_22 at h
  refine gx_iload_n C dX3_drops_22 rfl 3 rfl ?_
  refine gx_iconst (v := 5) C dX3_drops_23 (by decide) ?_
  refine gx_icmp_ge (tgt := 56) C dX3_drops_24 (by decide) (fun z => ?_) (fun z => ?_)
  · replace h := h.1 z
    refine gx_sub [0, 1] rfl ?_
    exact tb_X3_drops_56 C hK h
  · replace h := h.2 z
    refine gx_aload_n C dX3_drops_27 rfl 0 rfl ?_
    refine tm_get C hK 1 (by decide) q2301 rfl rfl dX3_drops_28 ?_
    refine gx_sipush (v := 394) C dX3_drops_31 (by decide) ?_
    refine gx_iconst (v := 5) C dX3_drops_34 (by decide) ?_
    refine gx_iload_n C dX3_drops_35 rfl 2 rfl ?_
    refine gx_bipush (v := 60) C dX3_drops_36 (by decide) ?_
    refine gx_irem C dX3_drops_38 (by decide) ?_
    refine gx_imul C dX3_drops_39 ?_
    refine gx_iadd C dX3_drops_40 ?_
    refine gx_iload_n C dX3_drops_41 rfl 3 rfl ?_
    refine gx_iadd C dX3_drops_42 ?_
    refine gx_aload_n C dX3_drops_43 rfl 0 rfl ?_
    refine gx_iload_n C dX3_drops_44 rfl 1 rfl ?_
    refine gx_iload_n C dX3_drops_45 rfl 3 rfl ?_
    refine tm_calli (rest := [.int ((394 + (5 * (a2 - a2 / 60 * 60))) + a3), .ref (g 1)]) C hK (fun sz => tk_X3_of h) (cwV 2 C.t (lw_V q2435 q2437 qs57 q130 q2438) rfl rfl rfl ⟨rfl, dmX3_of⟩ ⟨Nat.le_of_ble_eq_true rfl, Nat.le_of_ble_eq_true rfl⟩) rfl rfl (Nat.le_of_ble_eq_true rfl) dX3_drops_46 (fun r46 M46 h => ?_)
    obtain ⟨g49, h⟩ := h
    refine tm_ast0 C hK g49 dX3_drops_49 (fun M49 e_M49 => ?_)
    replace h := h M49 e_M49
    refine gx_iinc (v := a3 + 1) (k := 3) (lv' := [(3, .int (a3 + 1)), (0, .ref (g 0)), (1, .int a1), (2, .int a2)]) C dX3_drops_50 rfl rfl (by decide) rfl ?_
    refine gx_goto (tgt := 22) C dX3_drops_53 (by decide) ?_
    refine gx_sub [1, 2, 3, 0] rfl ?_
    exact hk22 M49 a1 a2 (a3 + 1) h
def tl_X3_drops_22 (Q : MS → Prop) : Nat → MS → Int32 → Int32 → Int32 → Prop
  | 0, _, _, _, _ => False
  | n + 1, M, a1, a2, a3 => tj_X3_drops_22 M a1 a2 a3 (fun M a1 a2 a3 => tl_X3_drops_22 Q n M a1 a2 a3) Q
theorem te_X3_drops_22 {l : Launch} {p : Program} {e : Env} {s : State} {m : MethodId} {args : Array Value} {below : List Frame} {meth : Method} {c : Code} {D : va_G} {g : Nat → Nat} {cI cJ : ClassId} (C : gx_C p s m args meth c cX3_drops 4 none RX3) (hK : va_K D gcl [(cI, .int), (cJ, .long)] s) {Q : MS → Prop}  (n : Nat) : ∀ (M : MS) (a1 : Int32) (a2 : Int32) (a3 : Int32), tl_X3_drops_22 Q n M a1 a2 a3 → gx_W p l e (headSpec (ws_ yX3_drops cX3_drops 4 none) rmX3_drops).room s m args below meth c 4 (tm_I D g cI cJ s M) 0 0 (MQ below (va_Qv Q (tm_B D g cI cJ s.heap.size) (tm_A g s.heap.size)) args s 0 0 (tm_A g s.heap.size)) 22 [(0, .ref (g 0)), (1, .int a1), (2, .int a2), (3, .int a3)] [] := by
  induction n with
  | zero => intro M a1 a2 a3 h; exact False.elim h
  | succ n ih => intro M a1 a2 a3 h; exact tb_X3_drops_22 C hK (show tj_X3_drops_22 M a1 a2 a3 (fun M a1 a2 a3 => tl_X3_drops_22 Q n M a1 a2 a3) Q from h) (fun M a1 a2 a3 h => ih M a1 a2 a3 h)
def tw_X3_drops (M : MS) (a1 : Int32) (Q : MS → Prop) : Prop :=
  tw_X3_of M a1 0 (fun r3 M3 => (vp_in 4 754 ∧ ((r3 < ((ms_r M3 0 4) - 60) → tj_X3_drops_56 M3 a1 Q) ∧ (¬ (r3 < ((ms_r M3 0 4) - 60)) → ∃ n : Nat, tl_X3_drops_22 Q n M3 a1 r3 0))))
theorem tk_X3_drops {l : Launch} {D : va_G} {g : Nat → Nat} {cI cJ : ClassId} {sz : Nat} {M : MS} {a1 : Int32} {Q : MS → Prop} (h : tw_X3_drops M a1 Q) : tm_Met l yX3_drops cX3_drops 4 none rmX3_drops [.int a1] D g cI cJ sz M (va_Qv Q (tm_B D g cI cJ sz) (tm_A g sz)) := by
  refine tm_entry (by decide) (Nat.le_of_ble_eq_true rfl) (fun p e s m args below meth c hsz C hK => ?_)
  subst hsz
  unfold tw_X3_drops at h
  show gx_W p l e (headSpec (ws_ yX3_drops cX3_drops 4 none) rmX3_drops).room s m args below meth c 4 (tm_I D g cI cJ s M) 0 0 (MQ below (va_Qv Q (tm_B D g cI cJ s.heap.size) (tm_A g s.heap.size)) args s 0 0 (tm_A g s.heap.size)) 0 [(0, .ref (g 0)), (1, .int a1)] []
  refine gx_aload_n C dX3_drops_0 rfl 0 rfl ?_
  refine gx_iload_n C dX3_drops_1 rfl 1 rfl ?_
  refine gx_iconst (v := 0) C dX3_drops_2 (by decide) ?_
  refine tm_calli (rest := []) C hK (fun sz => tk_X3_of h) (cwV 2 C.t (lw_V q2435 q2437 qs57 q130 q2438) rfl rfl rfl ⟨rfl, dmX3_of⟩ ⟨Nat.le_of_ble_eq_true rfl, Nat.le_of_ble_eq_true rfl⟩) rfl rfl (Nat.le_of_ble_eq_true rfl) dX3_drops_3 (fun r3 M3 h => ?_)
  refine gx_istore_n (lv' := [(2, .int r3), (0, .ref (g 0)), (1, .int a1)]) C dX3_drops_6 rfl (by decide) rfl ?_
  refine gx_iload_n C dX3_drops_7 rfl 0 rfl ?_
  refine gx_aload_n C dX3_drops_8 rfl 1 rfl ?_
  refine tm_get C hK 1 (by decide) q2301 rfl rfl dX3_drops_9 ?_
  refine gx_iconst (v := 4) C dX3_drops_12 (by decide) ?_
  obtain ⟨g13, h⟩ := h
  refine tm_ald0 C hK g13 dX3_drops_13 ?_
  refine gx_bipush (v := 60) C dX3_drops_14 (by decide) ?_
  refine gx_isub C dX3_drops_16 ?_
  refine gx_icmp_lt (tgt := 56) C dX3_drops_17 (by decide) (fun z => ?_) (fun z => ?_)
  · replace h := h.1 z
    refine gx_sub [1, 2] rfl ?_
    exact tb_X3_drops_56 C hK h
  · replace h := h.2 z
    refine gx_iconst (v := 0) C dX3_drops_20 (by decide) ?_
    refine gx_istore_n (lv' := [(3, .int 0), (2, .int r3), (0, .ref (g 0)), (1, .int a1)]) C dX3_drops_21 rfl (by decide) rfl ?_
    refine gx_sub [2, 3, 1, 0] rfl ?_
    obtain ⟨n, h⟩ := h
    exact te_X3_drops_22 C hK n M3 a1 r3 0 h
/-! takeOut(I)I -/
abbrev rmX3_takeOut : Room := { frames := 2, cells := 0, slots := 0, locals := 46 }
theorem dmX3_takeOut : yX3_takeOut.cls ≠ "java/lang/invoke/MethodHandle" ∧ yX3_takeOut.cls ≠ "java/lang/invoke/VarHandle" ∧ (parseMethodDescriptor yX3_takeOut.desc).map (fun d => d.parameters.length) = some 1 := by decide +kernel
def tw_X3_takeOut (M : MS) (a1 : Int32) (Q : Int32 → MS → Prop) : Prop :=
  tw_X3_placeOf M a1 (fun r2 M2 => (∀ M17 : MS, M17 = ms_s M2 0 (if r2 = (-1) then 1 else 0) → (((M17.1 0) ≤ 0 → tw_X3_record M17 (fun M30 => tw_X3_of M30 r2 2 (fun r36 M36 => (vp_in 6 754 ∧ (vp_in 6 754 ∧ ∀ M50 : MS, M50 = ms_a M36 0 6 ((ms_r M36 0 6) + 1) → tw_X3_drops M50 r2 (fun M53 => Q r36 M53)))))) ∧ (¬ (M17.1 0) ≤ 0 → Q 0 M17))))
theorem tk_X3_takeOut {l : Launch} {D : va_G} {g : Nat → Nat} {cI cJ : ClassId} {sz : Nat} {M : MS} {a1 : Int32} {Q : Int32 → MS → Prop} (h : tw_X3_takeOut M a1 Q) : tm_Met l yX3_takeOut cX3_takeOut 4 (some .int) rmX3_takeOut [.int a1] D g cI cJ sz M (va_Qi Q (tm_B D g cI cJ sz) (tm_A g sz)) := by
  refine tm_entry (by decide) (Nat.le_of_ble_eq_true rfl) (fun p e s m args below meth c hsz C hK => ?_)
  subst hsz
  unfold tw_X3_takeOut at h
  show gx_W p l e (headSpec (ws_ yX3_takeOut cX3_takeOut 4 (some .int)) rmX3_takeOut).room s m args below meth c 4 (tm_I D g cI cJ s M) 0 0 (MQ below (va_Qi Q (tm_B D g cI cJ s.heap.size) (tm_A g s.heap.size)) args s 0 0 (tm_A g s.heap.size)) 0 [(0, .ref (g 0)), (1, .int a1)] []
  refine gx_aload_n C dX3_takeOut_0 rfl 0 rfl ?_
  refine gx_iload_n C dX3_takeOut_1 rfl 1 rfl ?_
  refine tm_calli (rest := []) C hK (fun sz => tk_X3_placeOf h) (cwV 1 C.t (lw_V q2466 q2468 qs62 q130 q2469) rfl rfl rfl ⟨rfl, dmX3_placeOf⟩ ⟨Nat.le_of_ble_eq_true rfl, Nat.le_of_ble_eq_true rfl⟩) rfl rfl (Nat.le_of_ble_eq_true rfl) dX3_takeOut_2 (fun r2 M2 h => ?_)
  refine gx_istore_n (lv' := [(2, .int r2), (0, .ref (g 0)), (1, .int a1)]) C dX3_takeOut_5 rfl (by decide) rfl ?_
  refine gx_aload_n C dX3_takeOut_6 rfl 1 rfl ?_
  refine gx_iload_n C dX3_takeOut_7 rfl 0 rfl ?_
  refine gx_iconst (v := (-1)) C dX3_takeOut_8 (by decide) ?_
  refine gx_phii (t := (if r2 = (-1) then 1 else 0)) (pc2 := 17) (lv2 := [(2, .int r2), (0, .ref (g 0)), (1, .int a1)]) (rest2 := [.ref (g 0)]) (fun key => ?_) ?_
  · refine gx_icmp_ne (tgt := 16) C dX3_takeOut_9 (by decide) (fun z1 => ?_) (fun z1 => ?_)
    · refine gx_iconst (v := 0) C dX3_takeOut_16 (by decide) ?_
      exact gx_casti (if_neg z1) key
    · refine gx_iconst (v := 1) C dX3_takeOut_12 (by decide) ?_
      refine gx_goto (tgt := 17) C dX3_takeOut_13 (by decide) ?_
      exact gx_casti (if_pos z1) key
  refine tm_put0 C hK q2300 dX3_takeOut_17 (fun M17 e_M17 => ?_)
  replace h := h M17 e_M17
  refine gx_aload_n C dX3_takeOut_20 rfl 1 rfl ?_
  refine tm_get C hK 0 (by decide) q2300 rfl rfl dX3_takeOut_21 ?_
  refine gx_if_le (tgt := 29) C dX3_takeOut_24 (by decide) (fun z => ?_) (fun z => ?_)
  · replace h := h.1 z
    refine gx_aload_n C dX3_takeOut_29 rfl 1 rfl ?_
    refine tm_callv (rest := []) C hK (fun sz => tk_X3_record h) (cwV 0 C.t (lw_V q2371 q2373 qs47 q130 q2374) rfl rfl rfl ⟨rfl, dmX3_record⟩ ⟨Nat.le_of_ble_eq_true rfl, Nat.le_of_ble_eq_true rfl⟩) rfl rfl (Nat.le_of_ble_eq_true rfl) dX3_takeOut_30 (fun M30 h => ?_)
    refine gx_aload_n C dX3_takeOut_33 rfl 1 rfl ?_
    refine gx_iload_n C dX3_takeOut_34 rfl 0 rfl ?_
    refine gx_iconst (v := 2) C dX3_takeOut_35 (by decide) ?_
    refine tm_calli (rest := []) C hK (fun sz => tk_X3_of h) (cwV 2 C.t (lw_V q2435 q2437 qs57 q130 q2438) rfl rfl rfl ⟨rfl, dmX3_of⟩ ⟨Nat.le_of_ble_eq_true rfl, Nat.le_of_ble_eq_true rfl⟩) rfl rfl (Nat.le_of_ble_eq_true rfl) dX3_takeOut_36 (fun r36 M36 h => ?_)
    refine gx_istore_n (lv' := [(3, .int r36), (2, .int r2), (0, .ref (g 0)), (1, .int a1)]) C dX3_takeOut_39 rfl (by decide) rfl ?_
    refine gx_aload_n C dX3_takeOut_40 rfl 2 rfl ?_
    refine tm_get C hK 1 (by decide) q2301 rfl rfl dX3_takeOut_41 ?_
    refine gx_bipush (v := 6) C dX3_takeOut_44 (by decide) ?_
    refine gx_dup2_11 C dX3_takeOut_46 rfl rfl ?_
    obtain ⟨g47, h⟩ := h
    refine tm_ald0 C hK g47 dX3_takeOut_47 ?_
    refine gx_iconst (v := 1) C dX3_takeOut_48 (by decide) ?_
    refine gx_iadd C dX3_takeOut_49 ?_
    obtain ⟨g50, h⟩ := h
    refine tm_ast0 C hK g50 dX3_takeOut_50 (fun M50 e_M50 => ?_)
    replace h := h M50 e_M50
    refine gx_aload_n C dX3_takeOut_51 rfl 2 rfl ?_
    refine gx_iload_n C dX3_takeOut_52 rfl 1 rfl ?_
    refine tm_callv (rest := []) C hK (fun sz => tk_X3_drops h) (cwV 1 C.t (lw_V q2470 q2472 qs63 q130 q2473) rfl rfl rfl ⟨rfl, dmX3_drops⟩ ⟨Nat.le_of_ble_eq_true rfl, Nat.le_of_ble_eq_true rfl⟩) rfl rfl (Nat.le_of_ble_eq_true rfl) dX3_takeOut_53 (fun M53 h => ?_)
    refine gx_iload_n C dX3_takeOut_56 rfl 0 rfl ?_
    exact tm_iret C hK h dX3_takeOut_57
  · replace h := h.2 z
    refine gx_iconst (v := 0) C dX3_takeOut_27 (by decide) ?_
    exact tm_iret C hK h dX3_takeOut_28
/-! areYears(I)Z -/
abbrev rmX3_areYears : Room := { frames := 1, cells := 0, slots := 0, locals := 22 }
theorem dmX3_areYears : yX3_areYears.cls ≠ "java/lang/invoke/MethodHandle" ∧ yX3_areYears.cls ≠ "java/lang/invoke/VarHandle" ∧ (parseMethodDescriptor yX3_areYears.desc).map (fun d => d.parameters.length) = some 1 := by decide +kernel
def pw_X3_areYears (a0 : Int32) (Q : Int32 → Prop) : Prop :=
  pw_X3_within a0 1 20 (fun r4 => (narrow .boolean (.int r4) = .int r4 ∧ Q r4))
theorem pk_X3_areYears {l : Launch} {a0 : Int32} {Q : Int32 → Prop} (h : pw_X3_areYears a0 Q) : Met l yX3_areYears (ws_ yX3_areYears cX3_areYears 1 (some .boolean)) rmX3_areYears (va_Pc [.int a0] (fun _ => True)) (vp_Si Q) 0 0 (fun _ => False) := by
  refine ps_entry (by decide) (Nat.le_of_ble_eq_true rfl) (fun p e s m args below meth c C => ?_)
  unfold pw_X3_areYears at h
  show gx_W p l e (headSpec (ws_ yX3_areYears cX3_areYears 1 (some .boolean)) rmX3_areYears).room s m args below meth c 1 (ps_I s) 0 0 (MQ below (vp_Si Q) args s 0 0 (fun _ => False)) 0 [(0, .int a0)] []
  refine gx_iload_n C dX3_areYears_0 rfl 0 rfl ?_
  refine gx_iconst (v := 1) C dX3_areYears_1 (by decide) ?_
  refine gx_bipush (v := 20) C dX3_areYears_2 (by decide) ?_
  refine gx_calls_i (rest := []) C (pk_X3_within h) (va_cwS 3 C.t (lw_S q2360 q2361 q130 q2362) rfl rfl rfl dmX3_within ⟨Nat.le_of_ble_eq_true rfl, Nat.le_of_ble_eq_true rfl⟩) rfl rfl (Nat.le_of_ble_eq_true rfl) ⟨Nat.zero_le _, Nat.zero_le _⟩ dX3_areYears_4 (fun r4 h => ?_)
  obtain ⟨g7, h⟩ := h
  exact ps_zret C g7 h dX3_areYears_7
/-! has(JI)Z -/
abbrev rmX3_has : Room := { frames := 0, cells := 0, slots := 0, locals := 0 }
theorem dmX3_has : yX3_has.cls ≠ "java/lang/invoke/MethodHandle" ∧ yX3_has.cls ≠ "java/lang/invoke/VarHandle" ∧ (parseMethodDescriptor yX3_has.desc).map (fun d => d.parameters.length) = some 2 := by decide +kernel
def pw_X3_has (a0 : Int64) (a2 : Int32) (Q : Int32 → Prop) : Prop :=
  Q (if (lg_cmp ((a0 >>> (a2.toInt64 &&& 63)) &&& 1) 1) = 0 then 1 else 0)
theorem pk_X3_has {l : Launch} {a0 : Int64} {a2 : Int32} {Q : Int32 → Prop} (h : pw_X3_has a0 a2 Q) : Met l yX3_has (ws_ yX3_has cX3_has 3 (some .boolean)) rmX3_has (va_Pc [.long a0, .int a2] (fun _ => True)) (vp_Si Q) 0 0 (fun _ => False) := by
  refine ps_entry (by decide) (Nat.le_of_ble_eq_true rfl) (fun p e s m args below meth c C => ?_)
  unfold pw_X3_has at h
  show gx_W p l e (headSpec (ws_ yX3_has cX3_has 3 (some .boolean)) rmX3_has).room s m args below meth c 3 (ps_I s) 0 0 (MQ below (vp_Si Q) args s 0 0 (fun _ => False)) 0 [(0, .long a0), (2, .int a2)] []
  refine gx_lload_n C dX3_has_0 rfl 0 rfl ?_
  refine gx_iload_n C dX3_has_1 rfl 1 rfl ?_
  refine gx_lshr C dX3_has_2 rfl ?_
  refine gx_lconst (v := 1) C dX3_has_3 (by decide) ?_
  refine gx_land C dX3_has_4 ?_
  refine gx_lconst (v := 1) C dX3_has_5 (by decide) ?_
  refine gx_lcmp C dX3_has_6 ?_
  refine gx_phii (t := (if (lg_cmp ((a0 >>> (a2.toInt64 &&& 63)) &&& 1) 1) = 0 then 1 else 0)) (pc2 := 15) (lv2 := [(0, .long a0), (2, .int a2)]) (rest2 := []) (fun key => ?_) ?_
  · refine gx_if_ne (tgt := 14) C dX3_has_7 (by decide) (fun z1 => ?_) (fun z1 => ?_)
    · refine gx_iconst (v := 0) C dX3_has_14 (by decide) ?_
      exact gx_casti (if_neg z1) key
    · refine gx_iconst (v := 1) C dX3_has_10 (by decide) ?_
      refine gx_goto (tgt := 15) C dX3_has_11 (by decide) ?_
      exact gx_casti (if_pos z1) key
  exact ps_zret C (by repeat' (first | rfl | split)) h dX3_has_15
/-! size(I)I -/
abbrev rmX3_size : Room := { frames := 0, cells := 0, slots := 0, locals := 0 }
theorem dmX3_size : yX3_size.cls ≠ "java/lang/invoke/MethodHandle" ∧ yX3_size.cls ≠ "java/lang/invoke/VarHandle" ∧ (parseMethodDescriptor yX3_size.desc).map (fun d => d.parameters.length) = some 1 := by decide +kernel
def pw_X3_size (a0 : Int32) (Q : Int32 → Prop) : Prop :=
  Q (if 0 ≤ a0 then a0 else (-a0))
theorem pk_X3_size {l : Launch} {a0 : Int32} {Q : Int32 → Prop} (h : pw_X3_size a0 Q) : Met l yX3_size (ws_ yX3_size cX3_size 1 (some .int)) rmX3_size (va_Pc [.int a0] (fun _ => True)) (vp_Si Q) 0 0 (fun _ => False) := by
  refine ps_entry (by decide) (Nat.le_of_ble_eq_true rfl) (fun p e s m args below meth c C => ?_)
  unfold pw_X3_size at h
  show gx_W p l e (headSpec (ws_ yX3_size cX3_size 1 (some .int)) rmX3_size).room s m args below meth c 1 (ps_I s) 0 0 (MQ below (vp_Si Q) args s 0 0 (fun _ => False)) 0 [(0, .int a0)] []
  refine gx_iload_n C dX3_size_0 rfl 0 rfl ?_
  refine gx_phii (t := (if 0 ≤ a0 then a0 else (-a0))) (pc2 := 10) (lv2 := [(0, .int a0)]) (rest2 := []) (fun key => ?_) ?_
  · refine gx_if_ge (tgt := 9) C dX3_size_1 (by decide) (fun z1 => ?_) (fun z1 => ?_)
    · refine gx_iload_n C dX3_size_9 rfl 0 rfl ?_
      exact gx_casti (if_pos z1) key
    · refine gx_iload_n C dX3_size_4 rfl 0 rfl ?_
      refine gx_ineg C dX3_size_5 ?_
      refine gx_goto (tgt := 10) C dX3_size_6 (by decide) ?_
      exact gx_casti (if_neg z1) key
  exact ps_iret C h dX3_size_10
/-! far(II)I -/
abbrev rmX3_far : Room := { frames := 1, cells := 0, slots := 0, locals := 20 }
theorem dmX3_far : yX3_far.cls ≠ "java/lang/invoke/MethodHandle" ∧ yX3_far.cls ≠ "java/lang/invoke/VarHandle" ∧ (parseMethodDescriptor yX3_far.desc).map (fun d => d.parameters.length) = some 2 := by decide +kernel
def pw_X3_far (a0 : Int32) (a1 : Int32) (Q : Int32 → Prop) : Prop :=
  pw_X3_size ((a0 / 8) - (a1 / 8)) (fun r9 => pw_X3_size ((a0 - a0 / 8 * 8) - (a1 - a1 / 8 * 8)) (fun r22 => Q (if r9 ≤ r22 then r22 else r9)))
theorem pk_X3_far {l : Launch} {a0 : Int32} {a1 : Int32} {Q : Int32 → Prop} (h : pw_X3_far a0 a1 Q) : Met l yX3_far (ws_ yX3_far cX3_far 4 (some .int)) rmX3_far (va_Pc [.int a0, .int a1] (fun _ => True)) (vp_Si Q) 0 0 (fun _ => False) := by
  refine ps_entry (by decide) (Nat.le_of_ble_eq_true rfl) (fun p e s m args below meth c C => ?_)
  unfold pw_X3_far at h
  show gx_W p l e (headSpec (ws_ yX3_far cX3_far 4 (some .int)) rmX3_far).room s m args below meth c 4 (ps_I s) 0 0 (MQ below (vp_Si Q) args s 0 0 (fun _ => False)) 0 [(0, .int a0), (1, .int a1)] []
  refine gx_iload_n C dX3_far_0 rfl 0 rfl ?_
  refine gx_bipush (v := 8) C dX3_far_1 (by decide) ?_
  refine gx_idiv C dX3_far_3 (by decide) ?_
  refine gx_iload_n C dX3_far_4 rfl 1 rfl ?_
  refine gx_bipush (v := 8) C dX3_far_5 (by decide) ?_
  refine gx_idiv C dX3_far_7 (by decide) ?_
  refine gx_isub C dX3_far_8 ?_
  refine gx_calls_i (rest := []) C (pk_X3_size h) (va_cwS 1 C.t (lw_S q2503 q2504 q130 q2505) rfl rfl rfl dmX3_size ⟨Nat.le_of_ble_eq_true rfl, Nat.le_of_ble_eq_true rfl⟩) rfl rfl (Nat.le_of_ble_eq_true rfl) ⟨Nat.zero_le _, Nat.zero_le _⟩ dX3_far_9 (fun r9 h => ?_)
  refine gx_istore_n (lv' := [(2, .int r9), (0, .int a0), (1, .int a1)]) C dX3_far_12 rfl (by decide) rfl ?_
  refine gx_iload_n C dX3_far_13 rfl 1 rfl ?_
  refine gx_bipush (v := 8) C dX3_far_14 (by decide) ?_
  refine gx_irem C dX3_far_16 (by decide) ?_
  refine gx_iload_n C dX3_far_17 rfl 2 rfl ?_
  refine gx_bipush (v := 8) C dX3_far_18 (by decide) ?_
  refine gx_irem C dX3_far_20 (by decide) ?_
  refine gx_isub C dX3_far_21 ?_
  refine gx_calls_i (rest := []) C (pk_X3_size h) (va_cwS 1 C.t (lw_S q2503 q2504 q130 q2505) rfl rfl rfl dmX3_size ⟨Nat.le_of_ble_eq_true rfl, Nat.le_of_ble_eq_true rfl⟩) rfl rfl (Nat.le_of_ble_eq_true rfl) ⟨Nat.zero_le _, Nat.zero_le _⟩ dX3_far_22 (fun r22 h => ?_)
  refine gx_istore_n (lv' := [(3, .int r22), (2, .int r9), (0, .int a0), (1, .int a1)]) C dX3_far_25 rfl (by decide) rfl ?_
  refine gx_iload_n C dX3_far_26 rfl 1 rfl ?_
  refine gx_iload_n C dX3_far_27 rfl 0 rfl ?_
  refine gx_phii (t := (if r9 ≤ r22 then r22 else r9)) (pc2 := 36) (lv2 := [(3, .int r22), (2, .int r9), (0, .int a0), (1, .int a1)]) (rest2 := []) (fun key => ?_) ?_
  · refine gx_icmp_le (tgt := 35) C dX3_far_28 (by decide) (fun z1 => ?_) (fun z1 => ?_)
    · refine gx_iload_n C dX3_far_35 rfl 0 rfl ?_
      exact gx_casti (if_pos z1) key
    · refine gx_iload_n C dX3_far_31 rfl 1 rfl ?_
      refine gx_goto (tgt := 36) C dX3_far_32 (by decide) ?_
      exact gx_casti (if_neg z1) key
  exact ps_iret C h dX3_far_36
/-! areBeside(II)Z -/
abbrev rmX3_areBeside : Room := { frames := 1, cells := 0, slots := 0, locals := 20 }
theorem dmX3_areBeside : yX3_areBeside.cls ≠ "java/lang/invoke/MethodHandle" ∧ yX3_areBeside.cls ≠ "java/lang/invoke/VarHandle" ∧ (parseMethodDescriptor yX3_areBeside.desc).map (fun d => d.parameters.length) = some 2 := by decide +kernel
def pw_X3_areBeside (a0 : Int32) (a1 : Int32) (Q : Int32 → Prop) : Prop :=
  pw_X3_size ((a0 / 8) - (a1 / 8)) (fun r9 => pw_X3_size ((a0 - a0 / 8 * 8) - (a1 - a1 / 8 * 8)) (fun r21 => Q (if (r9 + r21) = 1 then 1 else 0)))
theorem pk_X3_areBeside {l : Launch} {a0 : Int32} {a1 : Int32} {Q : Int32 → Prop} (h : pw_X3_areBeside a0 a1 Q) : Met l yX3_areBeside (ws_ yX3_areBeside cX3_areBeside 2 (some .boolean)) rmX3_areBeside (va_Pc [.int a0, .int a1] (fun _ => True)) (vp_Si Q) 0 0 (fun _ => False) := by
  refine ps_entry (by decide) (Nat.le_of_ble_eq_true rfl) (fun p e s m args below meth c C => ?_)
  unfold pw_X3_areBeside at h
  show gx_W p l e (headSpec (ws_ yX3_areBeside cX3_areBeside 2 (some .boolean)) rmX3_areBeside).room s m args below meth c 2 (ps_I s) 0 0 (MQ below (vp_Si Q) args s 0 0 (fun _ => False)) 0 [(0, .int a0), (1, .int a1)] []
  refine gx_iload_n C dX3_areBeside_0 rfl 0 rfl ?_
  refine gx_bipush (v := 8) C dX3_areBeside_1 (by decide) ?_
  refine gx_idiv C dX3_areBeside_3 (by decide) ?_
  refine gx_iload_n C dX3_areBeside_4 rfl 1 rfl ?_
  refine gx_bipush (v := 8) C dX3_areBeside_5 (by decide) ?_
  refine gx_idiv C dX3_areBeside_7 (by decide) ?_
  refine gx_isub C dX3_areBeside_8 ?_
  refine gx_calls_i (rest := []) C (pk_X3_size h) (va_cwS 1 C.t (lw_S q2503 q2504 q130 q2505) rfl rfl rfl dmX3_size ⟨Nat.le_of_ble_eq_true rfl, Nat.le_of_ble_eq_true rfl⟩) rfl rfl (Nat.le_of_ble_eq_true rfl) ⟨Nat.zero_le _, Nat.zero_le _⟩ dX3_areBeside_9 (fun r9 h => ?_)
  refine gx_iload_n C dX3_areBeside_12 rfl 0 rfl ?_
  refine gx_bipush (v := 8) C dX3_areBeside_13 (by decide) ?_
  refine gx_irem C dX3_areBeside_15 (by decide) ?_
  refine gx_iload_n C dX3_areBeside_16 rfl 1 rfl ?_
  refine gx_bipush (v := 8) C dX3_areBeside_17 (by decide) ?_
  refine gx_irem C dX3_areBeside_19 (by decide) ?_
  refine gx_isub C dX3_areBeside_20 ?_
  refine gx_calls_i (rest := [.int r9]) C (pk_X3_size h) (va_cwS 1 C.t (lw_S q2503 q2504 q130 q2505) rfl rfl rfl dmX3_size ⟨Nat.le_of_ble_eq_true rfl, Nat.le_of_ble_eq_true rfl⟩) rfl rfl (Nat.le_of_ble_eq_true rfl) ⟨Nat.zero_le _, Nat.zero_le _⟩ dX3_areBeside_21 (fun r21 h => ?_)
  refine gx_iadd C dX3_areBeside_24 ?_
  refine gx_iconst (v := 1) C dX3_areBeside_25 (by decide) ?_
  refine gx_phii (t := (if (r9 + r21) = 1 then 1 else 0)) (pc2 := 34) (lv2 := [(0, .int a0), (1, .int a1)]) (rest2 := []) (fun key => ?_) ?_
  · refine gx_icmp_ne (tgt := 33) C dX3_areBeside_26 (by decide) (fun z1 => ?_) (fun z1 => ?_)
    · refine gx_iconst (v := 0) C dX3_areBeside_33 (by decide) ?_
      exact gx_casti (if_neg z1) key
    · refine gx_iconst (v := 1) C dX3_areBeside_29 (by decide) ?_
      refine gx_goto (tgt := 34) C dX3_areBeside_30 (by decide) ?_
      exact gx_casti (if_pos z1) key
  exact ps_zret C (by repeat' (first | rfl | split)) h dX3_areBeside_34
/-! rangeFrom(I)J -/
abbrev rmX3_rangeFrom : Room := { frames := 2, cells := 0, slots := 0, locals := 43 }
theorem dmX3_rangeFrom : yX3_rangeFrom.cls ≠ "java/lang/invoke/MethodHandle" ∧ yX3_rangeFrom.cls ≠ "java/lang/invoke/VarHandle" ∧ (parseMethodDescriptor yX3_rangeFrom.desc).map (fun d => d.parameters.length) = some 1 := by decide +kernel
def tj_X3_rangeFrom_110 (M : MS) (a1 : Int32) (a2 : Int64) (a4 : Int64) (a6 : Int32) (k7 : MS → Int32 → Int64 → Int64 → Prop) (k20 : MS → Int32 → Int64 → Int64 → Int32 → Prop) (Q : Int64 → MS → Prop) : Prop :=
  k20 M a1 a2 a4 (a6 + 1)
theorem tb_X3_rangeFrom_110 {l : Launch} {p : Program} {e : Env} {s : State} {m : MethodId} {args : Array Value} {below : List Frame} {meth : Method} {c : Code} {D : va_G} {g : Nat → Nat} {cI cJ : ClassId} (C : gx_C p s m args meth c cX3_rangeFrom 9 (some .long) RX3) (hK : va_K D gcl [(cI, .int), (cJ, .long)] s) {M : MS} {a1 : Int32} {a2 : Int64} {a4 : Int64} {a6 : Int32} {k7 : MS → Int32 → Int64 → Int64 → Prop} {k20 : MS → Int32 → Int64 → Int64 → Int32 → Prop} {Q : Int64 → MS → Prop} (h : tj_X3_rangeFrom_110 M a1 a2 a4 a6 k7 k20 Q) (hk7 : ∀ (M : MS) (a1 : Int32) (a2 : Int64) (a4 : Int64), k7 M a1 a2 a4 → gx_W p l e (headSpec (ws_ yX3_rangeFrom cX3_rangeFrom 9 (some .long)) rmX3_rangeFrom).room s m args below meth c 9 (tm_I D g cI cJ s M) 0 0 (MQ below (va_Ql Q (tm_B D g cI cJ s.heap.size) (tm_A g s.heap.size)) args s 0 0 (tm_A g s.heap.size)) 7 [(0, .ref (g 0)), (1, .int a1), (2, .long a2), (4, .long a4)] []) (hk20 : ∀ (M : MS) (a1 : Int32) (a2 : Int64) (a4 : Int64) (a6 : Int32), k20 M a1 a2 a4 a6 → gx_W p l e (headSpec (ws_ yX3_rangeFrom cX3_rangeFrom 9 (some .long)) rmX3_rangeFrom).room s m args below meth c 9 (tm_I D g cI cJ s M) 0 0 (MQ below (va_Ql Q (tm_B D g cI cJ s.heap.size) (tm_A g s.heap.size)) args s 0 0 (tm_A g s.heap.size)) 20 [(0, .ref (g 0)), (1, .int a1), (2, .long a2), (4, .long a4), (6, .int a6)] []) : gx_W p l e (headSpec (ws_ yX3_rangeFrom cX3_rangeFrom 9 (some .long)) rmX3_rangeFrom).room s m args below meth c 9 (tm_I D g cI cJ s M) 0 0 (MQ below (va_Ql Q (tm_B D g cI cJ s.heap.size) (tm_A g s.heap.size)) args s 0 0 (tm_A g s.heap.size)) 110 [(0, .ref (g 0)), (1, .int a1), (2, .long a2), (4, .long a4), (6, .int a6)] [] := by
  unfold tj_X3_rangeFrom_110 at h
  refine gx_iinc (v := a6 + 1) (k := 4) (lv' := [(6, .int (a6 + 1)), (0, .ref (g 0)), (1, .int a1), (2, .long a2), (4, .long a4)]) C dX3_rangeFrom_110 rfl rfl (by decide) rfl ?_
  refine gx_goto (tgt := 20) C dX3_rangeFrom_113 (by decide) ?_
  refine gx_sub [1, 2, 3, 4, 0] rfl ?_
  exact hk20 M a1 a2 a4 (a6 + 1) h
def tj_X3_rangeFrom_104 (M : MS) (a1 : Int32) (a2 : Int64) (a4 : Int64) (a6 : Int32) (a7 : Int32) (a8 : Int32) (k7 : MS → Int32 → Int64 → Int64 → Prop) (k20 : MS → Int32 → Int64 → Int64 → Int32 → Prop) (k65 : MS → Int32 → Int64 → Int64 → Int32 → Int32 → Int32 → Prop) (Q : Int64 → MS → Prop) : Prop :=
  k65 M a1 a2 a4 a6 a7 (a8 + 1)
theorem tb_X3_rangeFrom_104 {l : Launch} {p : Program} {e : Env} {s : State} {m : MethodId} {args : Array Value} {below : List Frame} {meth : Method} {c : Code} {D : va_G} {g : Nat → Nat} {cI cJ : ClassId} (C : gx_C p s m args meth c cX3_rangeFrom 9 (some .long) RX3) (hK : va_K D gcl [(cI, .int), (cJ, .long)] s) {M : MS} {a1 : Int32} {a2 : Int64} {a4 : Int64} {a6 : Int32} {a7 : Int32} {a8 : Int32} {k7 : MS → Int32 → Int64 → Int64 → Prop} {k20 : MS → Int32 → Int64 → Int64 → Int32 → Prop} {k65 : MS → Int32 → Int64 → Int64 → Int32 → Int32 → Int32 → Prop} {Q : Int64 → MS → Prop} (h : tj_X3_rangeFrom_104 M a1 a2 a4 a6 a7 a8 k7 k20 k65 Q) (hk7 : ∀ (M : MS) (a1 : Int32) (a2 : Int64) (a4 : Int64), k7 M a1 a2 a4 → gx_W p l e (headSpec (ws_ yX3_rangeFrom cX3_rangeFrom 9 (some .long)) rmX3_rangeFrom).room s m args below meth c 9 (tm_I D g cI cJ s M) 0 0 (MQ below (va_Ql Q (tm_B D g cI cJ s.heap.size) (tm_A g s.heap.size)) args s 0 0 (tm_A g s.heap.size)) 7 [(0, .ref (g 0)), (1, .int a1), (2, .long a2), (4, .long a4)] []) (hk20 : ∀ (M : MS) (a1 : Int32) (a2 : Int64) (a4 : Int64) (a6 : Int32), k20 M a1 a2 a4 a6 → gx_W p l e (headSpec (ws_ yX3_rangeFrom cX3_rangeFrom 9 (some .long)) rmX3_rangeFrom).room s m args below meth c 9 (tm_I D g cI cJ s M) 0 0 (MQ below (va_Ql Q (tm_B D g cI cJ s.heap.size) (tm_A g s.heap.size)) args s 0 0 (tm_A g s.heap.size)) 20 [(0, .ref (g 0)), (1, .int a1), (2, .long a2), (4, .long a4), (6, .int a6)] []) (hk65 : ∀ (M : MS) (a1 : Int32) (a2 : Int64) (a4 : Int64) (a6 : Int32) (a7 : Int32) (a8 : Int32), k65 M a1 a2 a4 a6 a7 a8 → gx_W p l e (headSpec (ws_ yX3_rangeFrom cX3_rangeFrom 9 (some .long)) rmX3_rangeFrom).room s m args below meth c 9 (tm_I D g cI cJ s M) 0 0 (MQ below (va_Ql Q (tm_B D g cI cJ s.heap.size) (tm_A g s.heap.size)) args s 0 0 (tm_A g s.heap.size)) 65 [(0, .ref (g 0)), (1, .int a1), (2, .long a2), (4, .long a4), (6, .int a6), (7, .int a7), (8, .int a8)] []) : gx_W p l e (headSpec (ws_ yX3_rangeFrom cX3_rangeFrom 9 (some .long)) rmX3_rangeFrom).room s m args below meth c 9 (tm_I D g cI cJ s M) 0 0 (MQ below (va_Ql Q (tm_B D g cI cJ s.heap.size) (tm_A g s.heap.size)) args s 0 0 (tm_A g s.heap.size)) 104 [(0, .ref (g 0)), (1, .int a1), (2, .long a2), (4, .long a4), (6, .int a6), (7, .int a7), (8, .int a8)] [] := by
  unfold tj_X3_rangeFrom_104 at h
  refine gx_iinc (v := a8 + 1) (k := 6) (lv' := [(8, .int (a8 + 1)), (0, .ref (g 0)), (1, .int a1), (2, .long a2), (4, .long a4), (6, .int a6), (7, .int a7)]) C dX3_rangeFrom_104 rfl rfl (by decide) rfl ?_
  refine gx_goto (tgt := 65) C dX3_rangeFrom_107 (by decide) ?_
  refine gx_sub [1, 2, 3, 4, 5, 6, 0] rfl ?_
  exact hk65 M a1 a2 a4 a6 a7 (a8 + 1) h
def tj_X3_rangeFrom_65 (M : MS) (a1 : Int32) (a2 : Int64) (a4 : Int64) (a6 : Int32) (a7 : Int32) (a8 : Int32) (k65 : MS → Int32 → Int64 → Int64 → Int32 → Int32 → Int32 → Prop) (k7 : MS → Int32 → Int64 → Int64 → Prop) (k20 : MS → Int32 → Int64 → Int64 → Int32 → Prop) (Q : Int64 → MS → Prop) : Prop :=
  ((64 ≤ a8 → tj_X3_rangeFrom_110 M a1 a2 a4 a6 k7 k20 Q) ∧ (¬ (64 ≤ a8) → ((a7 = 0 → tj_X3_rangeFrom_110 M a1 a2 a4 a6 k7 k20 Q) ∧ (¬ (a7 = 0) → pw_X3_has a4 a8 (fun r81 => ((r81 = 0 → tj_X3_rangeFrom_104 M a1 a2 a4 a6 a7 a8 k7 k20 k65 Q) ∧ (¬ (r81 = 0) → pw_X3_areBeside a6 a8 (fun r91 => ((r91 = 0 → tj_X3_rangeFrom_104 M a1 a2 a4 a6 a7 a8 k7 k20 k65 Q) ∧ (¬ (r91 = 0) → tj_X3_rangeFrom_104 M a1 (a2 ||| ((1 : Int64) <<< (a6.toInt64 &&& 63))) a4 a6 a7 a8 k7 k20 k65 Q))))))))))
theorem tb_X3_rangeFrom_65 {l : Launch} {p : Program} {e : Env} {s : State} {m : MethodId} {args : Array Value} {below : List Frame} {meth : Method} {c : Code} {D : va_G} {g : Nat → Nat} {cI cJ : ClassId} (C : gx_C p s m args meth c cX3_rangeFrom 9 (some .long) RX3) (hK : va_K D gcl [(cI, .int), (cJ, .long)] s) {M : MS} {a1 : Int32} {a2 : Int64} {a4 : Int64} {a6 : Int32} {a7 : Int32} {a8 : Int32} {k65 : MS → Int32 → Int64 → Int64 → Int32 → Int32 → Int32 → Prop} {k7 : MS → Int32 → Int64 → Int64 → Prop} {k20 : MS → Int32 → Int64 → Int64 → Int32 → Prop} {Q : Int64 → MS → Prop} (h : tj_X3_rangeFrom_65 M a1 a2 a4 a6 a7 a8 k65 k7 k20 Q) (hk65 : ∀ (M : MS) (a1 : Int32) (a2 : Int64) (a4 : Int64) (a6 : Int32) (a7 : Int32) (a8 : Int32), k65 M a1 a2 a4 a6 a7 a8 → gx_W p l e (headSpec (ws_ yX3_rangeFrom cX3_rangeFrom 9 (some .long)) rmX3_rangeFrom).room s m args below meth c 9 (tm_I D g cI cJ s M) 0 0 (MQ below (va_Ql Q (tm_B D g cI cJ s.heap.size) (tm_A g s.heap.size)) args s 0 0 (tm_A g s.heap.size)) 65 [(0, .ref (g 0)), (1, .int a1), (2, .long a2), (4, .long a4), (6, .int a6), (7, .int a7), (8, .int a8)] []) (hk7 : ∀ (M : MS) (a1 : Int32) (a2 : Int64) (a4 : Int64), k7 M a1 a2 a4 → gx_W p l e (headSpec (ws_ yX3_rangeFrom cX3_rangeFrom 9 (some .long)) rmX3_rangeFrom).room s m args below meth c 9 (tm_I D g cI cJ s M) 0 0 (MQ below (va_Ql Q (tm_B D g cI cJ s.heap.size) (tm_A g s.heap.size)) args s 0 0 (tm_A g s.heap.size)) 7 [(0, .ref (g 0)), (1, .int a1), (2, .long a2), (4, .long a4)] []) (hk20 : ∀ (M : MS) (a1 : Int32) (a2 : Int64) (a4 : Int64) (a6 : Int32), k20 M a1 a2 a4 a6 → gx_W p l e (headSpec (ws_ yX3_rangeFrom cX3_rangeFrom 9 (some .long)) rmX3_rangeFrom).room s m args below meth c 9 (tm_I D g cI cJ s M) 0 0 (MQ below (va_Ql Q (tm_B D g cI cJ s.heap.size) (tm_A g s.heap.size)) args s 0 0 (tm_A g s.heap.size)) 20 [(0, .ref (g 0)), (1, .int a1), (2, .long a2), (4, .long a4), (6, .int a6)] []) : gx_W p l e (headSpec (ws_ yX3_rangeFrom cX3_rangeFrom 9 (some .long)) rmX3_rangeFrom).room s m args below meth c 9 (tm_I D g cI cJ s M) 0 0 (MQ below (va_Ql Q (tm_B D g cI cJ s.heap.size) (tm_A g s.heap.size)) args s 0 0 (tm_A g s.heap.size)) 65 [(0, .ref (g 0)), (1, .int a1), (2, .long a2), (4, .long a4), (6, .int a6), (7, .int a7), (8, .int a8)] [] := by
  unfold tj_X3_rangeFrom_65 at h
  refine gx_iload C dX3_rangeFrom_65 6 rfl ?_
  refine gx_bipush (v := 64) C dX3_rangeFrom_67 (by decide) ?_
  refine gx_icmp_ge (tgt := 110) C dX3_rangeFrom_69 (by decide) (fun z => ?_) (fun z => ?_)
  · replace h := h.1 z
    refine gx_sub [0, 1, 2, 3, 4] rfl ?_
    exact tb_X3_rangeFrom_110 C hK h hk7 hk20
  · replace h := h.2 z
    refine gx_iload C dX3_rangeFrom_72 5 rfl ?_
    refine gx_if_eq (tgt := 110) C dX3_rangeFrom_74 (by decide) (fun z => ?_) (fun z => ?_)
    · replace h := h.1 z
      refine gx_sub [0, 1, 2, 3, 4] rfl ?_
      exact tb_X3_rangeFrom_110 C hK h hk7 hk20
    · replace h := h.2 z
      refine gx_lload C dX3_rangeFrom_77 3 rfl ?_
      refine gx_iload C dX3_rangeFrom_79 6 rfl ?_
      refine gx_calls_i (rest := []) C (pk_X3_has h) (va_cwS 2 C.t (lw_S q2497 q2498 q130 q2499) rfl rfl rfl dmX3_has ⟨Nat.le_of_ble_eq_true rfl, Nat.le_of_ble_eq_true rfl⟩) rfl rfl (Nat.le_of_ble_eq_true rfl) ⟨Nat.zero_le _, Nat.zero_le _⟩ dX3_rangeFrom_81 (fun r81 h => ?_)
      refine gx_if_eq (tgt := 104) C dX3_rangeFrom_84 (by decide) (fun z => ?_) (fun z => ?_)
      · replace h := h.1 z
        exact tb_X3_rangeFrom_104 C hK h hk7 hk20 hk65
      · replace h := h.2 z
        refine gx_iload C dX3_rangeFrom_87 4 rfl ?_
        refine gx_iload C dX3_rangeFrom_89 6 rfl ?_
        refine gx_calls_i (rest := []) C (pk_X3_areBeside h) (va_cwS 2 C.t (lw_S q2506 q2507 q130 q2508) rfl rfl rfl dmX3_areBeside ⟨Nat.le_of_ble_eq_true rfl, Nat.le_of_ble_eq_true rfl⟩) rfl rfl (Nat.le_of_ble_eq_true rfl) ⟨Nat.zero_le _, Nat.zero_le _⟩ dX3_rangeFrom_91 (fun r91 h => ?_)
        refine gx_if_eq (tgt := 104) C dX3_rangeFrom_94 (by decide) (fun z => ?_) (fun z => ?_)
        · replace h := h.1 z
          exact tb_X3_rangeFrom_104 C hK h hk7 hk20 hk65
        · replace h := h.2 z
          refine gx_lload_n C dX3_rangeFrom_97 rfl 2 rfl ?_
          refine gx_lconst (v := 1) C dX3_rangeFrom_98 (by decide) ?_
          refine gx_iload C dX3_rangeFrom_99 4 rfl ?_
          refine gx_lshl C dX3_rangeFrom_101 rfl ?_
          refine gx_lor C dX3_rangeFrom_102 ?_
          refine gx_lstore_n (lv' := [(2, .long (a2 ||| ((1 : Int64) <<< (a6.toInt64 &&& 63)))), (0, .ref (g 0)), (1, .int a1), (4, .long a4), (6, .int a6), (7, .int a7), (8, .int a8)]) C dX3_rangeFrom_103 rfl (by decide) rfl ?_
          refine gx_sub [1, 2, 0, 3, 4, 5, 6] rfl ?_
          exact tb_X3_rangeFrom_104 C hK h hk7 hk20 hk65
def tl_X3_rangeFrom_65 (k7 : MS → Int32 → Int64 → Int64 → Prop) (k20 : MS → Int32 → Int64 → Int64 → Int32 → Prop) (Q : Int64 → MS → Prop) : Nat → MS → Int32 → Int64 → Int64 → Int32 → Int32 → Int32 → Prop
  | 0, _, _, _, _, _, _, _ => False
  | n + 1, M, a1, a2, a4, a6, a7, a8 => tj_X3_rangeFrom_65 M a1 a2 a4 a6 a7 a8 (fun M a1 a2 a4 a6 a7 a8 => tl_X3_rangeFrom_65 k7 k20 Q n M a1 a2 a4 a6 a7 a8) k7 k20 Q
theorem te_X3_rangeFrom_65 {l : Launch} {p : Program} {e : Env} {s : State} {m : MethodId} {args : Array Value} {below : List Frame} {meth : Method} {c : Code} {D : va_G} {g : Nat → Nat} {cI cJ : ClassId} (C : gx_C p s m args meth c cX3_rangeFrom 9 (some .long) RX3) (hK : va_K D gcl [(cI, .int), (cJ, .long)] s) {k7 : MS → Int32 → Int64 → Int64 → Prop} {k20 : MS → Int32 → Int64 → Int64 → Int32 → Prop} {Q : Int64 → MS → Prop} (hk7 : ∀ (M : MS) (a1 : Int32) (a2 : Int64) (a4 : Int64), k7 M a1 a2 a4 → gx_W p l e (headSpec (ws_ yX3_rangeFrom cX3_rangeFrom 9 (some .long)) rmX3_rangeFrom).room s m args below meth c 9 (tm_I D g cI cJ s M) 0 0 (MQ below (va_Ql Q (tm_B D g cI cJ s.heap.size) (tm_A g s.heap.size)) args s 0 0 (tm_A g s.heap.size)) 7 [(0, .ref (g 0)), (1, .int a1), (2, .long a2), (4, .long a4)] []) (hk20 : ∀ (M : MS) (a1 : Int32) (a2 : Int64) (a4 : Int64) (a6 : Int32), k20 M a1 a2 a4 a6 → gx_W p l e (headSpec (ws_ yX3_rangeFrom cX3_rangeFrom 9 (some .long)) rmX3_rangeFrom).room s m args below meth c 9 (tm_I D g cI cJ s M) 0 0 (MQ below (va_Ql Q (tm_B D g cI cJ s.heap.size) (tm_A g s.heap.size)) args s 0 0 (tm_A g s.heap.size)) 20 [(0, .ref (g 0)), (1, .int a1), (2, .long a2), (4, .long a4), (6, .int a6)] []) (n : Nat) : ∀ (M : MS) (a1 : Int32) (a2 : Int64) (a4 : Int64) (a6 : Int32) (a7 : Int32) (a8 : Int32), tl_X3_rangeFrom_65 k7 k20 Q n M a1 a2 a4 a6 a7 a8 → gx_W p l e (headSpec (ws_ yX3_rangeFrom cX3_rangeFrom 9 (some .long)) rmX3_rangeFrom).room s m args below meth c 9 (tm_I D g cI cJ s M) 0 0 (MQ below (va_Ql Q (tm_B D g cI cJ s.heap.size) (tm_A g s.heap.size)) args s 0 0 (tm_A g s.heap.size)) 65 [(0, .ref (g 0)), (1, .int a1), (2, .long a2), (4, .long a4), (6, .int a6), (7, .int a7), (8, .int a8)] [] := by
  induction n with
  | zero => intro M a1 a2 a4 a6 a7 a8 h; exact False.elim h
  | succ n ih => intro M a1 a2 a4 a6 a7 a8 h; exact tb_X3_rangeFrom_65 C hK (show tj_X3_rangeFrom_65 M a1 a2 a4 a6 a7 a8 (fun M a1 a2 a4 a6 a7 a8 => tl_X3_rangeFrom_65 k7 k20 Q n M a1 a2 a4 a6 a7 a8) k7 k20 Q from h) (fun M a1 a2 a4 a6 a7 a8 h => ih M a1 a2 a4 a6 a7 a8 h) hk7 hk20
def tj_X3_rangeFrom_60 (M : MS) (a1 : Int32) (a2 : Int64) (a4 : Int64) (a6 : Int32) (s0 : Int32) (k7 : MS → Int32 → Int64 → Int64 → Prop) (k20 : MS → Int32 → Int64 → Int64 → Int32 → Prop) (Q : Int64 → MS → Prop) : Prop :=
  ∃ n : Nat, tl_X3_rangeFrom_65 k7 k20 Q n M a1 a2 a4 a6 s0 0
theorem tb_X3_rangeFrom_60 {l : Launch} {p : Program} {e : Env} {s : State} {m : MethodId} {args : Array Value} {below : List Frame} {meth : Method} {c : Code} {D : va_G} {g : Nat → Nat} {cI cJ : ClassId} (C : gx_C p s m args meth c cX3_rangeFrom 9 (some .long) RX3) (hK : va_K D gcl [(cI, .int), (cJ, .long)] s) {M : MS} {a1 : Int32} {a2 : Int64} {a4 : Int64} {a6 : Int32} {s0 : Int32} {k7 : MS → Int32 → Int64 → Int64 → Prop} {k20 : MS → Int32 → Int64 → Int64 → Int32 → Prop} {Q : Int64 → MS → Prop} (h : tj_X3_rangeFrom_60 M a1 a2 a4 a6 s0 k7 k20 Q) (hk7 : ∀ (M : MS) (a1 : Int32) (a2 : Int64) (a4 : Int64), k7 M a1 a2 a4 → gx_W p l e (headSpec (ws_ yX3_rangeFrom cX3_rangeFrom 9 (some .long)) rmX3_rangeFrom).room s m args below meth c 9 (tm_I D g cI cJ s M) 0 0 (MQ below (va_Ql Q (tm_B D g cI cJ s.heap.size) (tm_A g s.heap.size)) args s 0 0 (tm_A g s.heap.size)) 7 [(0, .ref (g 0)), (1, .int a1), (2, .long a2), (4, .long a4)] []) (hk20 : ∀ (M : MS) (a1 : Int32) (a2 : Int64) (a4 : Int64) (a6 : Int32), k20 M a1 a2 a4 a6 → gx_W p l e (headSpec (ws_ yX3_rangeFrom cX3_rangeFrom 9 (some .long)) rmX3_rangeFrom).room s m args below meth c 9 (tm_I D g cI cJ s M) 0 0 (MQ below (va_Ql Q (tm_B D g cI cJ s.heap.size) (tm_A g s.heap.size)) args s 0 0 (tm_A g s.heap.size)) 20 [(0, .ref (g 0)), (1, .int a1), (2, .long a2), (4, .long a4), (6, .int a6)] []) : gx_W p l e (headSpec (ws_ yX3_rangeFrom cX3_rangeFrom 9 (some .long)) rmX3_rangeFrom).room s m args below meth c 9 (tm_I D g cI cJ s M) 0 0 (MQ below (va_Ql Q (tm_B D g cI cJ s.heap.size) (tm_A g s.heap.size)) args s 0 0 (tm_A g s.heap.size)) 60 [(0, .ref (g 0)), (1, .int a1), (2, .long a2), (4, .long a4), (6, .int a6)] [.int s0] := by
  unfold tj_X3_rangeFrom_60 at h
  refine gx_istore (lv' := [(7, .int s0), (0, .ref (g 0)), (1, .int a1), (2, .long a2), (4, .long a4), (6, .int a6)]) C dX3_rangeFrom_60 (by decide) rfl ?_
  refine gx_iconst (v := 0) C dX3_rangeFrom_62 (by decide) ?_
  refine gx_istore (lv' := [(8, .int 0), (7, .int s0), (0, .ref (g 0)), (1, .int a1), (2, .long a2), (4, .long a4), (6, .int a6)]) C dX3_rangeFrom_63 (by decide) rfl ?_
  refine gx_sub [2, 3, 4, 5, 6, 1, 0] rfl ?_
  obtain ⟨n, h⟩ := h
  exact te_X3_rangeFrom_65 C hK hk7 hk20 n M a1 a2 a4 a6 s0 0 h
def tj_X3_rangeFrom_59 (M : MS) (a1 : Int32) (a2 : Int64) (a4 : Int64) (a6 : Int32) (k7 : MS → Int32 → Int64 → Int64 → Prop) (k20 : MS → Int32 → Int64 → Int64 → Int32 → Prop) (Q : Int64 → MS → Prop) : Prop :=
  tj_X3_rangeFrom_60 M a1 a2 a4 a6 0 k7 k20 Q
theorem tb_X3_rangeFrom_59 {l : Launch} {p : Program} {e : Env} {s : State} {m : MethodId} {args : Array Value} {below : List Frame} {meth : Method} {c : Code} {D : va_G} {g : Nat → Nat} {cI cJ : ClassId} (C : gx_C p s m args meth c cX3_rangeFrom 9 (some .long) RX3) (hK : va_K D gcl [(cI, .int), (cJ, .long)] s) {M : MS} {a1 : Int32} {a2 : Int64} {a4 : Int64} {a6 : Int32} {k7 : MS → Int32 → Int64 → Int64 → Prop} {k20 : MS → Int32 → Int64 → Int64 → Int32 → Prop} {Q : Int64 → MS → Prop} (h : tj_X3_rangeFrom_59 M a1 a2 a4 a6 k7 k20 Q) (hk7 : ∀ (M : MS) (a1 : Int32) (a2 : Int64) (a4 : Int64), k7 M a1 a2 a4 → gx_W p l e (headSpec (ws_ yX3_rangeFrom cX3_rangeFrom 9 (some .long)) rmX3_rangeFrom).room s m args below meth c 9 (tm_I D g cI cJ s M) 0 0 (MQ below (va_Ql Q (tm_B D g cI cJ s.heap.size) (tm_A g s.heap.size)) args s 0 0 (tm_A g s.heap.size)) 7 [(0, .ref (g 0)), (1, .int a1), (2, .long a2), (4, .long a4)] []) (hk20 : ∀ (M : MS) (a1 : Int32) (a2 : Int64) (a4 : Int64) (a6 : Int32), k20 M a1 a2 a4 a6 → gx_W p l e (headSpec (ws_ yX3_rangeFrom cX3_rangeFrom 9 (some .long)) rmX3_rangeFrom).room s m args below meth c 9 (tm_I D g cI cJ s M) 0 0 (MQ below (va_Ql Q (tm_B D g cI cJ s.heap.size) (tm_A g s.heap.size)) args s 0 0 (tm_A g s.heap.size)) 20 [(0, .ref (g 0)), (1, .int a1), (2, .long a2), (4, .long a4), (6, .int a6)] []) : gx_W p l e (headSpec (ws_ yX3_rangeFrom cX3_rangeFrom 9 (some .long)) rmX3_rangeFrom).room s m args below meth c 9 (tm_I D g cI cJ s M) 0 0 (MQ below (va_Ql Q (tm_B D g cI cJ s.heap.size) (tm_A g s.heap.size)) args s 0 0 (tm_A g s.heap.size)) 59 [(0, .ref (g 0)), (1, .int a1), (2, .long a2), (4, .long a4), (6, .int a6)] [] := by
  unfold tj_X3_rangeFrom_59 at h
  refine gx_iconst (v := 0) C dX3_rangeFrom_59 (by decide) ?_
  exact tb_X3_rangeFrom_60 C hK h hk7 hk20
def tj_X3_rangeFrom_20 (M : MS) (a1 : Int32) (a2 : Int64) (a4 : Int64) (a6 : Int32) (k20 : MS → Int32 → Int64 → Int64 → Int32 → Prop) (k7 : MS → Int32 → Int64 → Int64 → Prop) (Q : Int64 → MS → Prop) : Prop :=
  ((64 ≤ a6 → k7 M a1 a2 a4) ∧ (¬ (64 ≤ a6) → pw_X3_has a2 a6 (fun r30 => ((r30 = 0 → pw_X3_far a1 a6 (fun r39 => ((3 ≤ r39 → tj_X3_rangeFrom_59 M a1 a2 a4 a6 k7 k20 Q) ∧ (¬ (3 ≤ r39) → tw_X3_isRoad M a6 (fun r49 M49 => ((r49 = 0 → tj_X3_rangeFrom_60 M49 a1 a2 a4 a6 1 k7 k20 Q) ∧ (¬ (r49 = 0) → tj_X3_rangeFrom_59 M49 a1 a2 a4 a6 k7 k20 Q))))))) ∧ (¬ (r30 = 0) → tj_X3_rangeFrom_59 M a1 a2 a4 a6 k7 k20 Q)))))
theorem tb_X3_rangeFrom_20 {l : Launch} {p : Program} {e : Env} {s : State} {m : MethodId} {args : Array Value} {below : List Frame} {meth : Method} {c : Code} {D : va_G} {g : Nat → Nat} {cI cJ : ClassId} (C : gx_C p s m args meth c cX3_rangeFrom 9 (some .long) RX3) (hK : va_K D gcl [(cI, .int), (cJ, .long)] s) {M : MS} {a1 : Int32} {a2 : Int64} {a4 : Int64} {a6 : Int32} {k20 : MS → Int32 → Int64 → Int64 → Int32 → Prop} {k7 : MS → Int32 → Int64 → Int64 → Prop} {Q : Int64 → MS → Prop} (h : tj_X3_rangeFrom_20 M a1 a2 a4 a6 k20 k7 Q) (hk20 : ∀ (M : MS) (a1 : Int32) (a2 : Int64) (a4 : Int64) (a6 : Int32), k20 M a1 a2 a4 a6 → gx_W p l e (headSpec (ws_ yX3_rangeFrom cX3_rangeFrom 9 (some .long)) rmX3_rangeFrom).room s m args below meth c 9 (tm_I D g cI cJ s M) 0 0 (MQ below (va_Ql Q (tm_B D g cI cJ s.heap.size) (tm_A g s.heap.size)) args s 0 0 (tm_A g s.heap.size)) 20 [(0, .ref (g 0)), (1, .int a1), (2, .long a2), (4, .long a4), (6, .int a6)] []) (hk7 : ∀ (M : MS) (a1 : Int32) (a2 : Int64) (a4 : Int64), k7 M a1 a2 a4 → gx_W p l e (headSpec (ws_ yX3_rangeFrom cX3_rangeFrom 9 (some .long)) rmX3_rangeFrom).room s m args below meth c 9 (tm_I D g cI cJ s M) 0 0 (MQ below (va_Ql Q (tm_B D g cI cJ s.heap.size) (tm_A g s.heap.size)) args s 0 0 (tm_A g s.heap.size)) 7 [(0, .ref (g 0)), (1, .int a1), (2, .long a2), (4, .long a4)] []) : gx_W p l e (headSpec (ws_ yX3_rangeFrom cX3_rangeFrom 9 (some .long)) rmX3_rangeFrom).room s m args below meth c 9 (tm_I D g cI cJ s M) 0 0 (MQ below (va_Ql Q (tm_B D g cI cJ s.heap.size) (tm_A g s.heap.size)) args s 0 0 (tm_A g s.heap.size)) 20 [(0, .ref (g 0)), (1, .int a1), (2, .long a2), (4, .long a4), (6, .int a6)] [] := by
  unfold tj_X3_rangeFrom_20 at h
  refine gx_iload C dX3_rangeFrom_20 4 rfl ?_
  refine gx_bipush (v := 64) C dX3_rangeFrom_22 (by decide) ?_
  refine gx_icmp_ge (tgt := 116) C dX3_rangeFrom_24 (by decide) (fun z => ?_) (fun z => ?_)
  · replace h := h.1 z
    refine gx_goto (tgt := 7) C dX3_rangeFrom_116 (by decide) ?_
    refine gx_sub [0, 1, 2, 3] rfl ?_
    exact hk7 M a1 a2 a4 h
  · replace h := h.2 z
    refine gx_lload_n C dX3_rangeFrom_27 rfl 2 rfl ?_
    refine gx_iload C dX3_rangeFrom_28 4 rfl ?_
    refine gx_calls_i (rest := []) C (pk_X3_has h) (va_cwS 2 C.t (lw_S q2497 q2498 q130 q2499) rfl rfl rfl dmX3_has ⟨Nat.le_of_ble_eq_true rfl, Nat.le_of_ble_eq_true rfl⟩) rfl rfl (Nat.le_of_ble_eq_true rfl) ⟨Nat.zero_le _, Nat.zero_le _⟩ dX3_rangeFrom_30 (fun r30 h => ?_)
    refine gx_if_ne (tgt := 59) C dX3_rangeFrom_33 (by decide) (fun z => ?_) (fun z => ?_)
    · replace h := h.2 z
      exact tb_X3_rangeFrom_59 C hK h hk7 hk20
    · replace h := h.1 z
      refine gx_iload_n C dX3_rangeFrom_36 rfl 1 rfl ?_
      refine gx_iload C dX3_rangeFrom_37 4 rfl ?_
      refine gx_calls_i (rest := []) C (pk_X3_far h) (va_cwS 2 C.t (lw_S q2500 q2501 q130 q2502) rfl rfl rfl dmX3_far ⟨Nat.le_of_ble_eq_true rfl, Nat.le_of_ble_eq_true rfl⟩) rfl rfl (Nat.le_of_ble_eq_true rfl) ⟨Nat.zero_le _, Nat.zero_le _⟩ dX3_rangeFrom_39 (fun r39 h => ?_)
      refine gx_iconst (v := 3) C dX3_rangeFrom_42 (by decide) ?_
      refine gx_icmp_ge (tgt := 59) C dX3_rangeFrom_43 (by decide) (fun z => ?_) (fun z => ?_)
      · replace h := h.1 z
        exact tb_X3_rangeFrom_59 C hK h hk7 hk20
      · replace h := h.2 z
        refine gx_aload_n C dX3_rangeFrom_46 rfl 0 rfl ?_
        refine gx_iload C dX3_rangeFrom_47 4 rfl ?_
        refine tm_calli (rest := []) C hK (fun sz => tk_X3_isRoad h) (cwV 1 C.t (lw_V q2390 q2392 qs50 q130 q2393) rfl rfl rfl ⟨rfl, dmX3_isRoad⟩ ⟨Nat.le_of_ble_eq_true rfl, Nat.le_of_ble_eq_true rfl⟩) rfl rfl (Nat.le_of_ble_eq_true rfl) dX3_rangeFrom_49 (fun r49 M49 h => ?_)
        refine gx_if_ne (tgt := 59) C dX3_rangeFrom_52 (by decide) (fun z => ?_) (fun z => ?_)
        · replace h := h.2 z
          exact tb_X3_rangeFrom_59 C hK h hk7 hk20
        · replace h := h.1 z
          refine gx_iconst (v := 1) C dX3_rangeFrom_55 (by decide) ?_
          refine gx_goto (tgt := 60) C dX3_rangeFrom_56 (by decide) ?_
          exact tb_X3_rangeFrom_60 C hK h hk7 hk20
def tl_X3_rangeFrom_20 (k7 : MS → Int32 → Int64 → Int64 → Prop) (Q : Int64 → MS → Prop) : Nat → MS → Int32 → Int64 → Int64 → Int32 → Prop
  | 0, _, _, _, _, _ => False
  | n + 1, M, a1, a2, a4, a6 => tj_X3_rangeFrom_20 M a1 a2 a4 a6 (fun M a1 a2 a4 a6 => tl_X3_rangeFrom_20 k7 Q n M a1 a2 a4 a6) k7 Q
theorem te_X3_rangeFrom_20 {l : Launch} {p : Program} {e : Env} {s : State} {m : MethodId} {args : Array Value} {below : List Frame} {meth : Method} {c : Code} {D : va_G} {g : Nat → Nat} {cI cJ : ClassId} (C : gx_C p s m args meth c cX3_rangeFrom 9 (some .long) RX3) (hK : va_K D gcl [(cI, .int), (cJ, .long)] s) {k7 : MS → Int32 → Int64 → Int64 → Prop} {Q : Int64 → MS → Prop} (hk7 : ∀ (M : MS) (a1 : Int32) (a2 : Int64) (a4 : Int64), k7 M a1 a2 a4 → gx_W p l e (headSpec (ws_ yX3_rangeFrom cX3_rangeFrom 9 (some .long)) rmX3_rangeFrom).room s m args below meth c 9 (tm_I D g cI cJ s M) 0 0 (MQ below (va_Ql Q (tm_B D g cI cJ s.heap.size) (tm_A g s.heap.size)) args s 0 0 (tm_A g s.heap.size)) 7 [(0, .ref (g 0)), (1, .int a1), (2, .long a2), (4, .long a4)] []) (n : Nat) : ∀ (M : MS) (a1 : Int32) (a2 : Int64) (a4 : Int64) (a6 : Int32), tl_X3_rangeFrom_20 k7 Q n M a1 a2 a4 a6 → gx_W p l e (headSpec (ws_ yX3_rangeFrom cX3_rangeFrom 9 (some .long)) rmX3_rangeFrom).room s m args below meth c 9 (tm_I D g cI cJ s M) 0 0 (MQ below (va_Ql Q (tm_B D g cI cJ s.heap.size) (tm_A g s.heap.size)) args s 0 0 (tm_A g s.heap.size)) 20 [(0, .ref (g 0)), (1, .int a1), (2, .long a2), (4, .long a4), (6, .int a6)] [] := by
  induction n with
  | zero => intro M a1 a2 a4 a6 h; exact False.elim h
  | succ n ih => intro M a1 a2 a4 a6 h; exact tb_X3_rangeFrom_20 C hK (show tj_X3_rangeFrom_20 M a1 a2 a4 a6 (fun M a1 a2 a4 a6 => tl_X3_rangeFrom_20 k7 Q n M a1 a2 a4 a6) k7 Q from h) (fun M a1 a2 a4 a6 h => ih M a1 a2 a4 a6 h) hk7
def tj_X3_rangeFrom_7 (M : MS) (a1 : Int32) (a2 : Int64) (a4 : Int64) (k7 : MS → Int32 → Int64 → Int64 → Prop) (Q : Int64 → MS → Prop) : Prop :=
  (((lg_cmp a2 a4) = 0 → Q a2 M) ∧ (¬ (lg_cmp a2 a4) = 0 → ∃ n : Nat, tl_X3_rangeFrom_20 k7 Q n M a1 a2 a2 0))
theorem tb_X3_rangeFrom_7 {l : Launch} {p : Program} {e : Env} {s : State} {m : MethodId} {args : Array Value} {below : List Frame} {meth : Method} {c : Code} {D : va_G} {g : Nat → Nat} {cI cJ : ClassId} (C : gx_C p s m args meth c cX3_rangeFrom 9 (some .long) RX3) (hK : va_K D gcl [(cI, .int), (cJ, .long)] s) {M : MS} {a1 : Int32} {a2 : Int64} {a4 : Int64} {k7 : MS → Int32 → Int64 → Int64 → Prop} {Q : Int64 → MS → Prop} (h : tj_X3_rangeFrom_7 M a1 a2 a4 k7 Q) (hk7 : ∀ (M : MS) (a1 : Int32) (a2 : Int64) (a4 : Int64), k7 M a1 a2 a4 → gx_W p l e (headSpec (ws_ yX3_rangeFrom cX3_rangeFrom 9 (some .long)) rmX3_rangeFrom).room s m args below meth c 9 (tm_I D g cI cJ s M) 0 0 (MQ below (va_Ql Q (tm_B D g cI cJ s.heap.size) (tm_A g s.heap.size)) args s 0 0 (tm_A g s.heap.size)) 7 [(0, .ref (g 0)), (1, .int a1), (2, .long a2), (4, .long a4)] []) : gx_W p l e (headSpec (ws_ yX3_rangeFrom cX3_rangeFrom 9 (some .long)) rmX3_rangeFrom).room s m args below meth c 9 (tm_I D g cI cJ s M) 0 0 (MQ below (va_Ql Q (tm_B D g cI cJ s.heap.size) (tm_A g s.heap.size)) args s 0 0 (tm_A g s.heap.size)) 7 [(0, .ref (g 0)), (1, .int a1), (2, .long a2), (4, .long a4)] [] := by
  unfold tj_X3_rangeFrom_7 at h
  refine gx_lload_n C dX3_rangeFrom_7 rfl 2 rfl ?_
  refine gx_lload C dX3_rangeFrom_8 3 rfl ?_
  refine gx_lcmp C dX3_rangeFrom_10 ?_
  refine gx_if_eq (tgt := 119) C dX3_rangeFrom_11 (by decide) (fun z => ?_) (fun z => ?_)
  · replace h := h.1 z
    refine gx_lload_n C dX3_rangeFrom_119 rfl 2 rfl ?_
    exact tm_lret C hK h dX3_rangeFrom_120
  · replace h := h.2 z
    refine gx_lload_n C dX3_rangeFrom_14 rfl 2 rfl ?_
    refine gx_lstore (lv' := [(4, .long a2), (0, .ref (g 0)), (1, .int a1), (2, .long a2)]) C dX3_rangeFrom_15 (by decide) rfl ?_
    refine gx_iconst (v := 0) C dX3_rangeFrom_17 (by decide) ?_
    refine gx_istore (lv' := [(6, .int 0), (4, .long a2), (0, .ref (g 0)), (1, .int a1), (2, .long a2)]) C dX3_rangeFrom_18 (by decide) rfl ?_
    refine gx_sub [2, 3, 4, 1, 0] rfl ?_
    obtain ⟨n, h⟩ := h
    exact te_X3_rangeFrom_20 C hK hk7 n M a1 a2 a2 0 h
def tl_X3_rangeFrom_7 (Q : Int64 → MS → Prop) : Nat → MS → Int32 → Int64 → Int64 → Prop
  | 0, _, _, _, _ => False
  | n + 1, M, a1, a2, a4 => tj_X3_rangeFrom_7 M a1 a2 a4 (fun M a1 a2 a4 => tl_X3_rangeFrom_7 Q n M a1 a2 a4) Q
theorem te_X3_rangeFrom_7 {l : Launch} {p : Program} {e : Env} {s : State} {m : MethodId} {args : Array Value} {below : List Frame} {meth : Method} {c : Code} {D : va_G} {g : Nat → Nat} {cI cJ : ClassId} (C : gx_C p s m args meth c cX3_rangeFrom 9 (some .long) RX3) (hK : va_K D gcl [(cI, .int), (cJ, .long)] s) {Q : Int64 → MS → Prop}  (n : Nat) : ∀ (M : MS) (a1 : Int32) (a2 : Int64) (a4 : Int64), tl_X3_rangeFrom_7 Q n M a1 a2 a4 → gx_W p l e (headSpec (ws_ yX3_rangeFrom cX3_rangeFrom 9 (some .long)) rmX3_rangeFrom).room s m args below meth c 9 (tm_I D g cI cJ s M) 0 0 (MQ below (va_Ql Q (tm_B D g cI cJ s.heap.size) (tm_A g s.heap.size)) args s 0 0 (tm_A g s.heap.size)) 7 [(0, .ref (g 0)), (1, .int a1), (2, .long a2), (4, .long a4)] [] := by
  induction n with
  | zero => intro M a1 a2 a4 h; exact False.elim h
  | succ n ih => intro M a1 a2 a4 h; exact tb_X3_rangeFrom_7 C hK (show tj_X3_rangeFrom_7 M a1 a2 a4 (fun M a1 a2 a4 => tl_X3_rangeFrom_7 Q n M a1 a2 a4) Q from h) (fun M a1 a2 a4 h => ih M a1 a2 a4 h)
def tw_X3_rangeFrom (M : MS) (a1 : Int32) (Q : Int64 → MS → Prop) : Prop :=
  ∃ n : Nat, tl_X3_rangeFrom_7 Q n M a1 ((1 : Int64) <<< (a1.toInt64 &&& 63)) 0
theorem tk_X3_rangeFrom {l : Launch} {D : va_G} {g : Nat → Nat} {cI cJ : ClassId} {sz : Nat} {M : MS} {a1 : Int32} {Q : Int64 → MS → Prop} (h : tw_X3_rangeFrom M a1 Q) : tm_Met l yX3_rangeFrom cX3_rangeFrom 9 (some .long) rmX3_rangeFrom [.int a1] D g cI cJ sz M (va_Ql Q (tm_B D g cI cJ sz) (tm_A g sz)) := by
  refine tm_entry (by decide) (Nat.le_of_ble_eq_true rfl) (fun p e s m args below meth c hsz C hK => ?_)
  subst hsz
  unfold tw_X3_rangeFrom at h
  show gx_W p l e (headSpec (ws_ yX3_rangeFrom cX3_rangeFrom 9 (some .long)) rmX3_rangeFrom).room s m args below meth c 9 (tm_I D g cI cJ s M) 0 0 (MQ below (va_Ql Q (tm_B D g cI cJ s.heap.size) (tm_A g s.heap.size)) args s 0 0 (tm_A g s.heap.size)) 0 [(0, .ref (g 0)), (1, .int a1)] []
  refine gx_lconst (v := 1) C dX3_rangeFrom_0 (by decide) ?_
  refine gx_iload_n C dX3_rangeFrom_1 rfl 1 rfl ?_
  refine gx_lshl C dX3_rangeFrom_2 rfl ?_
  refine gx_lstore_n (lv' := [(2, .long ((1 : Int64) <<< (a1.toInt64 &&& 63))), (0, .ref (g 0)), (1, .int a1)]) C dX3_rangeFrom_3 rfl (by decide) rfl ?_
  refine gx_lconst (v := 0) C dX3_rangeFrom_4 (by decide) ?_
  refine gx_lstore (lv' := [(4, .long 0), (2, .long ((1 : Int64) <<< (a1.toInt64 &&& 63))), (0, .ref (g 0)), (1, .int a1)]) C dX3_rangeFrom_5 (by decide) rfl ?_
  refine gx_sub [2, 3, 1, 0] rfl ?_
  obtain ⟨n, h⟩ := h
  exact te_X3_rangeFrom_7 C hK n M a1 ((1 : Int64) <<< (a1.toInt64 &&& 63)) 0 h
/-! laysRanges()V -/
abbrev rmX3_laysRanges : Room := { frames := 3, cells := 0, slots := 0, locals := 71 }
theorem dmX3_laysRanges : yX3_laysRanges.cls ≠ "java/lang/invoke/MethodHandle" ∧ yX3_laysRanges.cls ≠ "java/lang/invoke/VarHandle" ∧ (parseMethodDescriptor yX3_laysRanges.desc).map (fun d => d.parameters.length) = some 0 := by decide +kernel
def tj_X3_laysRanges_2 (M : MS) (a1 : Int32) (k2 : MS → Int32 → Prop) (Q : MS → Prop) : Prop :=
  (vp_in 2 754 ∧ (((ms_r M 0 2) ≤ a1 → Q M) ∧ (¬ (ms_r M 0 2) ≤ a1 → (vp_in (144 + a1) 754 ∧ tw_X3_rangeFrom M (ms_r M 0 (144 + a1)) (fun r28 M28 => (vp_in a1 11 ∧ ∀ M31 : MS, M31 = ms_l M28 a1 r28 → k2 M31 (a1 + 1)))))))
theorem tb_X3_laysRanges_2 {l : Launch} {p : Program} {e : Env} {s : State} {m : MethodId} {args : Array Value} {below : List Frame} {meth : Method} {c : Code} {D : va_G} {g : Nat → Nat} {cI cJ : ClassId} (C : gx_C p s m args meth c cX3_laysRanges 2 none RX3) (hK : va_K D gcl [(cI, .int), (cJ, .long)] s) {M : MS} {a1 : Int32} {k2 : MS → Int32 → Prop} {Q : MS → Prop} (h : tj_X3_laysRanges_2 M a1 k2 Q) (hk2 : ∀ (M : MS) (a1 : Int32), k2 M a1 → gx_W p l e (headSpec (ws_ yX3_laysRanges cX3_laysRanges 2 none) rmX3_laysRanges).room s m args below meth c 2 (tm_I D g cI cJ s M) 0 0 (MQ below (va_Qv Q (tm_B D g cI cJ s.heap.size) (tm_A g s.heap.size)) args s 0 0 (tm_A g s.heap.size)) 2 [(0, .ref (g 0)), (1, .int a1)] []) : gx_W p l e (headSpec (ws_ yX3_laysRanges cX3_laysRanges 2 none) rmX3_laysRanges).room s m args below meth c 2 (tm_I D g cI cJ s M) 0 0 (MQ below (va_Qv Q (tm_B D g cI cJ s.heap.size) (tm_A g s.heap.size)) args s 0 0 (tm_A g s.heap.size)) 2 [(0, .ref (g 0)), (1, .int a1)] [] := by
  unfold tj_X3_laysRanges_2 at h
  refine gx_iload_n C dX3_laysRanges_2 rfl 1 rfl ?_
  refine gx_aload_n C dX3_laysRanges_3 rfl 0 rfl ?_
  refine tm_get C hK 1 (by decide) q2301 rfl rfl dX3_laysRanges_4 ?_
  refine gx_iconst (v := 2) C dX3_laysRanges_7 (by decide) ?_
  obtain ⟨g8, h⟩ := h
  refine tm_ald0 C hK g8 dX3_laysRanges_8 ?_
  refine gx_icmp_ge (tgt := 38) C dX3_laysRanges_9 (by decide) (fun z => ?_) (fun z => ?_)
  · replace h := h.1 z
    exact tm_vret C hK h dX3_laysRanges_38
  · replace h := h.2 z
    refine gx_aload_n C dX3_laysRanges_12 rfl 0 rfl ?_
    refine tm_get C hK 7 (by decide) q2307 rfl rfl dX3_laysRanges_13 ?_
    refine gx_iload_n C dX3_laysRanges_16 rfl 1 rfl ?_
    refine gx_aload_n C dX3_laysRanges_17 rfl 0 rfl ?_
    refine gx_aload_n C dX3_laysRanges_18 rfl 0 rfl ?_
    refine tm_get C hK 1 (by decide) q2301 rfl rfl dX3_laysRanges_19 ?_
    refine gx_sipush (v := 144) C dX3_laysRanges_22 (by decide) ?_
    refine gx_iload_n C dX3_laysRanges_25 rfl 1 rfl ?_
    refine gx_iadd C dX3_laysRanges_26 ?_
    obtain ⟨g27, h⟩ := h
    refine tm_ald0 C hK g27 dX3_laysRanges_27 ?_
    refine tm_calll (rest := [.int a1, .ref (g 5)]) C hK (fun sz => tk_X3_rangeFrom h) (cwV 1 C.t (lw_V q2493 q2495 qs67 q130 q2496) rfl rfl rfl ⟨rfl, dmX3_rangeFrom⟩ ⟨Nat.le_of_ble_eq_true rfl, Nat.le_of_ble_eq_true rfl⟩) rfl rfl (Nat.le_of_ble_eq_true rfl) dX3_laysRanges_28 (fun r28 M28 h => ?_)
    obtain ⟨g31, h⟩ := h
    refine tm_lst C hK g31 dX3_laysRanges_31 (fun M31 e_M31 => ?_)
    replace h := h M31 e_M31
    refine gx_iinc (v := a1 + 1) (k := 1) (lv' := [(1, .int (a1 + 1)), (0, .ref (g 0))]) C dX3_laysRanges_32 rfl rfl (by decide) rfl ?_
    refine gx_goto (tgt := 2) C dX3_laysRanges_35 (by decide) ?_
    refine gx_sub [1, 0] rfl ?_
    exact hk2 M31 (a1 + 1) h
def tl_X3_laysRanges_2 (Q : MS → Prop) : Nat → MS → Int32 → Prop
  | 0, _, _ => False
  | n + 1, M, a1 => tj_X3_laysRanges_2 M a1 (fun M a1 => tl_X3_laysRanges_2 Q n M a1) Q
theorem te_X3_laysRanges_2 {l : Launch} {p : Program} {e : Env} {s : State} {m : MethodId} {args : Array Value} {below : List Frame} {meth : Method} {c : Code} {D : va_G} {g : Nat → Nat} {cI cJ : ClassId} (C : gx_C p s m args meth c cX3_laysRanges 2 none RX3) (hK : va_K D gcl [(cI, .int), (cJ, .long)] s) {Q : MS → Prop}  (n : Nat) : ∀ (M : MS) (a1 : Int32), tl_X3_laysRanges_2 Q n M a1 → gx_W p l e (headSpec (ws_ yX3_laysRanges cX3_laysRanges 2 none) rmX3_laysRanges).room s m args below meth c 2 (tm_I D g cI cJ s M) 0 0 (MQ below (va_Qv Q (tm_B D g cI cJ s.heap.size) (tm_A g s.heap.size)) args s 0 0 (tm_A g s.heap.size)) 2 [(0, .ref (g 0)), (1, .int a1)] [] := by
  induction n with
  | zero => intro M a1 h; exact False.elim h
  | succ n ih => intro M a1 h; exact tb_X3_laysRanges_2 C hK (show tj_X3_laysRanges_2 M a1 (fun M a1 => tl_X3_laysRanges_2 Q n M a1) Q from h) (fun M a1 h => ih M a1 h)
def tw_X3_laysRanges (M : MS) (Q : MS → Prop) : Prop :=
  ∃ n : Nat, tl_X3_laysRanges_2 Q n M 0
theorem tk_X3_laysRanges {l : Launch} {D : va_G} {g : Nat → Nat} {cI cJ : ClassId} {sz : Nat} {M : MS} {Q : MS → Prop} (h : tw_X3_laysRanges M Q) : tm_Met l yX3_laysRanges cX3_laysRanges 2 none rmX3_laysRanges [] D g cI cJ sz M (va_Qv Q (tm_B D g cI cJ sz) (tm_A g sz)) := by
  refine tm_entry (by decide) (Nat.le_of_ble_eq_true rfl) (fun p e s m args below meth c hsz C hK => ?_)
  subst hsz
  unfold tw_X3_laysRanges at h
  show gx_W p l e (headSpec (ws_ yX3_laysRanges cX3_laysRanges 2 none) rmX3_laysRanges).room s m args below meth c 2 (tm_I D g cI cJ s M) 0 0 (MQ below (va_Qv Q (tm_B D g cI cJ s.heap.size) (tm_A g s.heap.size)) args s 0 0 (tm_A g s.heap.size)) 0 [(0, .ref (g 0))] []
  refine gx_iconst (v := 0) C dX3_laysRanges_0 (by decide) ?_
  refine gx_istore_n (lv' := [(1, .int 0), (0, .ref (g 0))]) C dX3_laysRanges_1 rfl (by decide) rfl ?_
  refine gx_sub [1, 0] rfl ?_
  obtain ⟨n, h⟩ := h
  exact te_X3_laysRanges_2 C hK n M 0 h
/-! next(I)I -/
abbrev rmX3_next : Room := { frames := 0, cells := 0, slots := 0, locals := 0 }
theorem dmX3_next : yX3_next.cls ≠ "java/lang/invoke/MethodHandle" ∧ yX3_next.cls ≠ "java/lang/invoke/VarHandle" ∧ (parseMethodDescriptor yX3_next.desc).map (fun d => d.parameters.length) = some 1 := by decide +kernel
def tj_X3_next_151 (M : MS) (a4 : Int32) (s0 : Int32) (Q : Int32 → MS → Prop) : Prop :=
  Q (if ((if a4 = 0 then 160 else 90) : Int32) ≤ (s0 + 2) then (if a4 = 0 then 160 else 90) else (s0 + 2)) M
theorem tb_X3_next_151 {l : Launch} {p : Program} {e : Env} {s : State} {m : MethodId} {args : Array Value} {below : List Frame} {meth : Method} {c : Code} {D : va_G} {g : Nat → Nat} {cI cJ : ClassId} (C : gx_C p s m args meth c cX3_next 7 (some .int) RX3) (hK : va_K D gcl [(cI, .int), (cJ, .long)] s) {M : MS} {a4 : Int32} {s0 : Int32} {Q : Int32 → MS → Prop} (h : tj_X3_next_151 M a4 s0 Q)  : gx_W p l e (headSpec (ws_ yX3_next cX3_next 7 (some .int)) rmX3_next).room s m args below meth c 7 (tm_I D g cI cJ s M) 0 0 (MQ below (va_Qi Q (tm_B D g cI cJ s.heap.size) (tm_A g s.heap.size)) args s 0 0 (tm_A g s.heap.size)) 151 [(4, .int a4)] [.int s0] := by
  unfold tj_X3_next_151 at h
  refine gx_istore (lv' := [(5, .int s0), (4, .int a4)]) C dX3_next_151 (by decide) rfl ?_
  refine gx_iload C dX3_next_153 1 rfl ?_
  refine gx_phii (t := (if a4 = 0 then 160 else 90)) (pc2 := 166) (lv2 := [(5, .int s0), (4, .int a4)]) (rest2 := []) (fun key => ?_) ?_
  · refine gx_if_ne (tgt := 164) C dX3_next_155 (by decide) (fun z1 => ?_) (fun z1 => ?_)
    · refine gx_bipush (v := 90) C dX3_next_164 (by decide) ?_
      exact gx_casti (if_neg z1) key
    · refine gx_sipush (v := 160) C dX3_next_158 (by decide) ?_
      refine gx_goto (tgt := 166) C dX3_next_161 (by decide) ?_
      exact gx_casti (if_pos z1) key
  refine gx_istore (lv' := [(6, .int ((if a4 = 0 then 160 else 90))), (5, .int s0), (4, .int a4)]) C dX3_next_166 (by decide) rfl ?_
  refine gx_iload C dX3_next_168 1 rfl ?_
  refine gx_iconst (v := 2) C dX3_next_170 (by decide) ?_
  refine gx_iadd C dX3_next_171 ?_
  refine gx_iload C dX3_next_172 0 rfl ?_
  refine gx_phii (t := (if ((if a4 = 0 then 160 else 90) : Int32) ≤ (s0 + 2) then (if a4 = 0 then 160 else 90) else (s0 + 2))) (pc2 := 186) (lv2 := [(6, .int ((if a4 = 0 then 160 else 90))), (5, .int s0), (4, .int a4)]) (rest2 := []) (fun key => ?_) ?_
  · refine gx_icmp_ge (tgt := 184) C dX3_next_174 (by decide) (fun z1 => ?_) (fun z1 => ?_)
    · refine gx_iload C dX3_next_184 0 rfl ?_
      exact gx_casti (if_pos z1) key
    · refine gx_iload C dX3_next_177 1 rfl ?_
      refine gx_iconst (v := 2) C dX3_next_179 (by decide) ?_
      refine gx_iadd C dX3_next_180 ?_
      refine gx_goto (tgt := 186) C dX3_next_181 (by decide) ?_
      exact gx_casti (if_neg z1) key
  exact tm_iret C hK h dX3_next_186
def tj_X3_next_66 (M : MS) (s0 : Int32) (Q : Int32 → MS → Prop) : Prop :=
  Q s0 M
theorem tb_X3_next_66 {l : Launch} {p : Program} {e : Env} {s : State} {m : MethodId} {args : Array Value} {below : List Frame} {meth : Method} {c : Code} {D : va_G} {g : Nat → Nat} {cI cJ : ClassId} (C : gx_C p s m args meth c cX3_next 7 (some .int) RX3) (hK : va_K D gcl [(cI, .int), (cJ, .long)] s) {M : MS} {s0 : Int32} {Q : Int32 → MS → Prop} (h : tj_X3_next_66 M s0 Q)  : gx_W p l e (headSpec (ws_ yX3_next cX3_next 7 (some .int)) rmX3_next).room s m args below meth c 7 (tm_I D g cI cJ s M) 0 0 (MQ below (va_Qi Q (tm_B D g cI cJ s.heap.size) (tm_A g s.heap.size)) args s 0 0 (tm_A g s.heap.size)) 66 [] [.int s0] := by
  unfold tj_X3_next_66 at h
  exact tm_iret C hK h dX3_next_66
def tw_X3_next (M : MS) (a1 : Int32) (Q : Int32 → MS → Prop) : Prop :=
  (vp_in (80 + a1) 754 ∧ (vp_in 0 754 ∧ (vp_in (16 + a1) 754 ∧ (((ms_r M 0 (16 + a1)) = 3 → Q 0 M) ∧ (¬ (ms_r M 0 (16 + a1)) = 3 → (((ms_r M 0 (16 + a1)) = 1 → ((40 ≤ (((ms_r M 0 (80 + a1)) + 20) / 2) → tj_X3_next_66 M 40 Q) ∧ (¬ (40 ≤ (((ms_r M 0 (80 + a1)) + 20) / 2)) → tj_X3_next_66 M (((ms_r M 0 (80 + a1)) + 20) / 2) Q))) ∧ (¬ (ms_r M 0 (16 + a1)) = 1 → (((ms_r M 0 (16 + a1)) = 0 → ((((ms_r M 0 0) - (ms_r M 0 0) / 4 * 4) = 0 → tj_X3_next_151 M (ms_r M 0 (16 + a1)) ((ms_r M 0 (80 + a1)) + ((ms_r M 0 (80 + a1)) / 4)) Q) ∧ (¬ ((ms_r M 0 0) - (ms_r M 0 0) / 4 * 4) = 0 → ((((ms_r M 0 0) - (ms_r M 0 0) / 4 * 4) = 1 → tj_X3_next_151 M (ms_r M 0 (16 + a1)) (2 * (ms_r M 0 (80 + a1))) Q) ∧ (¬ ((ms_r M 0 0) - (ms_r M 0 0) / 4 * 4) = 1 → ((((ms_r M 0 0) - (ms_r M 0 0) / 4 * 4) = 2 → tj_X3_next_151 M (ms_r M 0 (16 + a1)) ((ms_r M 0 (80 + a1)) + ((ms_r M 0 (80 + a1)) / 2)) Q) ∧ (¬ ((ms_r M 0 0) - (ms_r M 0 0) / 4 * 4) = 2 → tj_X3_next_151 M (ms_r M 0 (16 + a1)) ((ms_r M 0 (80 + a1)) / 4) Q))))))) ∧ (¬ (ms_r M 0 (16 + a1)) = 0 → ((((ms_r M 0 0) - (ms_r M 0 0) / 4 * 4) = 0 → tj_X3_next_151 M (ms_r M 0 (16 + a1)) (ms_r M 0 (80 + a1)) Q) ∧ (¬ ((ms_r M 0 0) - (ms_r M 0 0) / 4 * 4) = 0 → ((((ms_r M 0 0) - (ms_r M 0 0) / 4 * 4) = 1 → tj_X3_next_151 M (ms_r M 0 (16 + a1)) ((ms_r M 0 (80 + a1)) + ((ms_r M 0 (80 + a1)) / 2)) Q) ∧ (¬ ((ms_r M 0 0) - (ms_r M 0 0) / 4 * 4) = 1 → ((((ms_r M 0 0) - (ms_r M 0 0) / 4 * 4) = 2 → tj_X3_next_151 M (ms_r M 0 (16 + a1)) ((ms_r M 0 (80 + a1)) + ((ms_r M 0 (80 + a1)) / 4)) Q) ∧ (¬ ((ms_r M 0 0) - (ms_r M 0 0) / 4 * 4) = 2 → tj_X3_next_151 M (ms_r M 0 (16 + a1)) ((ms_r M 0 (80 + a1)) / 2) Q)))))))))))))))
theorem tk_X3_next {l : Launch} {D : va_G} {g : Nat → Nat} {cI cJ : ClassId} {sz : Nat} {M : MS} {a1 : Int32} {Q : Int32 → MS → Prop} (h : tw_X3_next M a1 Q) : tm_Met l yX3_next cX3_next 7 (some .int) rmX3_next [.int a1] D g cI cJ sz M (va_Qi Q (tm_B D g cI cJ sz) (tm_A g sz)) := by
  refine tm_entry (by decide) (Nat.le_of_ble_eq_true rfl) (fun p e s m args below meth c hsz C hK => ?_)
  subst hsz
  unfold tw_X3_next at h
  show gx_W p l e (headSpec (ws_ yX3_next cX3_next 7 (some .int)) rmX3_next).room s m args below meth c 7 (tm_I D g cI cJ s M) 0 0 (MQ below (va_Qi Q (tm_B D g cI cJ s.heap.size) (tm_A g s.heap.size)) args s 0 0 (tm_A g s.heap.size)) 0 [(0, .ref (g 0)), (1, .int a1)] []
  refine gx_aload_n C dX3_next_0 rfl 0 rfl ?_
  refine tm_get C hK 1 (by decide) q2301 rfl rfl dX3_next_1 ?_
  refine gx_bipush (v := 80) C dX3_next_4 (by decide) ?_
  refine gx_iload_n C dX3_next_6 rfl 1 rfl ?_
  refine gx_iadd C dX3_next_7 ?_
  obtain ⟨g8, h⟩ := h
  refine tm_ald0 C hK g8 dX3_next_8 ?_
  refine gx_istore_n (lv' := [(2, .int (ms_r M 0 (80 + a1))), (0, .ref (g 0)), (1, .int a1)]) C dX3_next_9 rfl (by decide) rfl ?_
  refine gx_aload_n C dX3_next_10 rfl 1 rfl ?_
  refine tm_get C hK 1 (by decide) q2301 rfl rfl dX3_next_11 ?_
  refine gx_iconst (v := 0) C dX3_next_14 (by decide) ?_
  obtain ⟨g15, h⟩ := h
  refine tm_ald0 C hK g15 dX3_next_15 ?_
  refine gx_iconst (v := 4) C dX3_next_16 (by decide) ?_
  refine gx_irem C dX3_next_17 (by decide) ?_
  refine gx_istore_n (lv' := [(3, .int ((ms_r M 0 0) - (ms_r M 0 0) / 4 * 4)), (2, .int (ms_r M 0 (80 + a1))), (0, .ref (g 0)), (1, .int a1)]) C dX3_next_18 rfl (by decide) rfl ?_
  refine gx_aload_n C dX3_next_19 rfl 2 rfl ?_
  refine tm_get C hK 1 (by decide) q2301 rfl rfl dX3_next_20 ?_
  refine gx_bipush (v := 16) C dX3_next_23 (by decide) ?_
  refine gx_iload_n C dX3_next_25 rfl 3 rfl ?_
  refine gx_iadd C dX3_next_26 ?_
  obtain ⟨g27, h⟩ := h
  refine tm_ald0 C hK g27 dX3_next_27 ?_
  refine gx_istore (lv' := [(4, .int (ms_r M 0 (16 + a1))), (3, .int ((ms_r M 0 0) - (ms_r M 0 0) / 4 * 4)), (2, .int (ms_r M 0 (80 + a1))), (0, .ref (g 0)), (1, .int a1)]) C dX3_next_28 (by decide) rfl ?_
  refine gx_iload C dX3_next_30 0 rfl ?_
  refine gx_iconst (v := 3) C dX3_next_32 (by decide) ?_
  refine gx_icmp_ne (tgt := 38) C dX3_next_33 (by decide) (fun z => ?_) (fun z => ?_)
  · replace h := h.2 z
    refine gx_iload C dX3_next_38 0 rfl ?_
    refine gx_iconst (v := 1) C dX3_next_40 (by decide) ?_
    refine gx_icmp_ne (tgt := 67) C dX3_next_41 (by decide) (fun z => ?_) (fun z => ?_)
    · replace h := h.2 z
      refine gx_iload C dX3_next_67 0 rfl ?_
      refine gx_if_ne (tgt := 114) C dX3_next_69 (by decide) (fun z => ?_) (fun z => ?_)
      · replace h := h.2 z
        refine gx_iload_n C dX3_next_114 rfl 1 rfl ?_
        refine gx_if_ne (tgt := 122) C dX3_next_115 (by decide) (fun z => ?_) (fun z => ?_)
        · replace h := h.2 z
          refine gx_iload_n C dX3_next_122 rfl 1 rfl ?_
          refine gx_iconst (v := 1) C dX3_next_123 (by decide) ?_
          refine gx_icmp_ne (tgt := 135) C dX3_next_124 (by decide) (fun z => ?_) (fun z => ?_)
          · replace h := h.2 z
            refine gx_iload_n C dX3_next_135 rfl 1 rfl ?_
            refine gx_iconst (v := 2) C dX3_next_136 (by decide) ?_
            refine gx_icmp_ne (tgt := 148) C dX3_next_137 (by decide) (fun z => ?_) (fun z => ?_)
            · replace h := h.2 z
              refine gx_iload_n C dX3_next_148 rfl 2 rfl ?_
              refine gx_iconst (v := 2) C dX3_next_149 (by decide) ?_
              refine gx_idiv C dX3_next_150 (by decide) ?_
              refine gx_sub [0] rfl ?_
              exact tb_X3_next_151 C hK h
            · replace h := h.1 z
              refine gx_iload_n C dX3_next_140 rfl 2 rfl ?_
              refine gx_iload_n C dX3_next_141 rfl 2 rfl ?_
              refine gx_iconst (v := 4) C dX3_next_142 (by decide) ?_
              refine gx_idiv C dX3_next_143 (by decide) ?_
              refine gx_iadd C dX3_next_144 ?_
              refine gx_goto (tgt := 151) C dX3_next_145 (by decide) ?_
              refine gx_sub [0] rfl ?_
              exact tb_X3_next_151 C hK h
          · replace h := h.1 z
            refine gx_iload_n C dX3_next_127 rfl 2 rfl ?_
            refine gx_iload_n C dX3_next_128 rfl 2 rfl ?_
            refine gx_iconst (v := 2) C dX3_next_129 (by decide) ?_
            refine gx_idiv C dX3_next_130 (by decide) ?_
            refine gx_iadd C dX3_next_131 ?_
            refine gx_goto (tgt := 151) C dX3_next_132 (by decide) ?_
            refine gx_sub [0] rfl ?_
            exact tb_X3_next_151 C hK h
        · replace h := h.1 z
          refine gx_iload_n C dX3_next_118 rfl 2 rfl ?_
          refine gx_goto (tgt := 151) C dX3_next_119 (by decide) ?_
          refine gx_sub [0] rfl ?_
          exact tb_X3_next_151 C hK h
      · replace h := h.1 z
        refine gx_iload_n C dX3_next_72 rfl 1 rfl ?_
        refine gx_if_ne (tgt := 84) C dX3_next_73 (by decide) (fun z => ?_) (fun z => ?_)
        · replace h := h.2 z
          refine gx_iload_n C dX3_next_84 rfl 1 rfl ?_
          refine gx_iconst (v := 1) C dX3_next_85 (by decide) ?_
          refine gx_icmp_ne (tgt := 95) C dX3_next_86 (by decide) (fun z => ?_) (fun z => ?_)
          · replace h := h.2 z
            refine gx_iload_n C dX3_next_95 rfl 1 rfl ?_
            refine gx_iconst (v := 2) C dX3_next_96 (by decide) ?_
            refine gx_icmp_ne (tgt := 108) C dX3_next_97 (by decide) (fun z => ?_) (fun z => ?_)
            · replace h := h.2 z
              refine gx_iload_n C dX3_next_108 rfl 2 rfl ?_
              refine gx_iconst (v := 4) C dX3_next_109 (by decide) ?_
              refine gx_idiv C dX3_next_110 (by decide) ?_
              refine gx_goto (tgt := 151) C dX3_next_111 (by decide) ?_
              refine gx_sub [0] rfl ?_
              exact tb_X3_next_151 C hK h
            · replace h := h.1 z
              refine gx_iload_n C dX3_next_100 rfl 2 rfl ?_
              refine gx_iload_n C dX3_next_101 rfl 2 rfl ?_
              refine gx_iconst (v := 2) C dX3_next_102 (by decide) ?_
              refine gx_idiv C dX3_next_103 (by decide) ?_
              refine gx_iadd C dX3_next_104 ?_
              refine gx_goto (tgt := 151) C dX3_next_105 (by decide) ?_
              refine gx_sub [0] rfl ?_
              exact tb_X3_next_151 C hK h
          · replace h := h.1 z
            refine gx_iconst (v := 2) C dX3_next_89 (by decide) ?_
            refine gx_iload_n C dX3_next_90 rfl 2 rfl ?_
            refine gx_imul C dX3_next_91 ?_
            refine gx_goto (tgt := 151) C dX3_next_92 (by decide) ?_
            refine gx_sub [0] rfl ?_
            exact tb_X3_next_151 C hK h
        · replace h := h.1 z
          refine gx_iload_n C dX3_next_76 rfl 2 rfl ?_
          refine gx_iload_n C dX3_next_77 rfl 2 rfl ?_
          refine gx_iconst (v := 4) C dX3_next_78 (by decide) ?_
          refine gx_idiv C dX3_next_79 (by decide) ?_
          refine gx_iadd C dX3_next_80 ?_
          refine gx_goto (tgt := 151) C dX3_next_81 (by decide) ?_
          refine gx_sub [0] rfl ?_
          exact tb_X3_next_151 C hK h
    · replace h := h.1 z
      refine gx_iload_n C dX3_next_44 rfl 2 rfl ?_
      refine gx_bipush (v := 20) C dX3_next_45 (by decide) ?_
      refine gx_iadd C dX3_next_47 ?_
      refine gx_iconst (v := 2) C dX3_next_48 (by decide) ?_
      refine gx_idiv C dX3_next_49 (by decide) ?_
      refine gx_bipush (v := 40) C dX3_next_50 (by decide) ?_
      refine gx_icmp_ge (tgt := 64) C dX3_next_52 (by decide) (fun z => ?_) (fun z => ?_)
      · replace h := h.1 z
        refine gx_bipush (v := 40) C dX3_next_64 (by decide) ?_
        refine gx_sub [] rfl ?_
        exact tb_X3_next_66 C hK h
      · replace h := h.2 z
        refine gx_iload_n C dX3_next_55 rfl 2 rfl ?_
        refine gx_bipush (v := 20) C dX3_next_56 (by decide) ?_
        refine gx_iadd C dX3_next_58 ?_
        refine gx_iconst (v := 2) C dX3_next_59 (by decide) ?_
        refine gx_idiv C dX3_next_60 (by decide) ?_
        refine gx_goto (tgt := 66) C dX3_next_61 (by decide) ?_
        refine gx_sub [] rfl ?_
        exact tb_X3_next_66 C hK h
  · replace h := h.1 z
    refine gx_iconst (v := 0) C dX3_next_36 (by decide) ?_
    exact tm_iret C hK h dX3_next_37
