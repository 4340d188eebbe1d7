set_option maxRecDepth 100000
set_option maxHeartbeats 4000000
/-! ofDeath(II)I -/
abbrev rmX3_ofDeath : Room := { frames := 0, cells := 0, slots := 0, locals := 0 }
theorem dmX3_ofDeath : yX3_ofDeath.cls ≠ "java/lang/invoke/MethodHandle" ∧ yX3_ofDeath.cls ≠ "java/lang/invoke/VarHandle" ∧ (parseMethodDescriptor yX3_ofDeath.desc).map (fun d => d.parameters.length) = some 2 := by decide +kernel
def tw_X3_ofDeath (M : MS) (a1 : Int32) (a2 : Int32) (Q : Int32 → MS → Prop) : Prop :=
  (vp_in 9 754 ∧ (vp_in ((694 + (3 * (((ms_r M 0 9) - 1) - a1))) + a2) 754 ∧ Q (ms_r M 0 ((694 + (3 * (((ms_r M 0 9) - 1) - a1))) + a2)) M))
theorem tk_X3_ofDeath {l : Launch} {D : va_G} {g : Nat → Nat} {cI cJ : ClassId} {sz : Nat} {M : MS} {a1 : Int32} {a2 : Int32} {Q : Int32 → MS → Prop} (h : tw_X3_ofDeath M a1 a2 Q) : tm_Met l yX3_ofDeath cX3_ofDeath 3 (some .int) rmX3_ofDeath [.int a1, .int a2] D g cI cJ sz M (va_Qi Q (tm_B D g cI cJ sz) (tm_A g sz)) := by
  refine tm_entry (by decide) (Nat.le_of_ble_eq_true rfl) (fun p e s m args below meth c hsz C hK => ?_)
  subst hsz
  unfold tw_X3_ofDeath at h
  show gx_W p l e (headSpec (ws_ yX3_ofDeath cX3_ofDeath 3 (some .int)) rmX3_ofDeath).room s m args below meth c 3 (tm_I D g cI cJ s M) 0 0 (MQ below (va_Qi Q (tm_B D g cI cJ s.heap.size) (tm_A g s.heap.size)) args s 0 0 (tm_A g s.heap.size)) 0 [(0, .ref (g 0)), (1, .int a1), (2, .int a2)] []
  refine gx_aload_n C dX3_ofDeath_0 rfl 0 rfl ?_
  refine tm_get C hK 1 (by decide) q2301 rfl rfl dX3_ofDeath_1 ?_
  refine gx_sipush (v := 694) C dX3_ofDeath_4 (by decide) ?_
  refine gx_iconst (v := 3) C dX3_ofDeath_7 (by decide) ?_
  refine gx_aload_n C dX3_ofDeath_8 rfl 0 rfl ?_
  refine tm_get C hK 1 (by decide) q2301 rfl rfl dX3_ofDeath_9 ?_
  refine gx_bipush (v := 9) C dX3_ofDeath_12 (by decide) ?_
  obtain ⟨g14, h⟩ := h
  refine tm_ald0 C hK g14 dX3_ofDeath_14 ?_
  refine gx_iconst (v := 1) C dX3_ofDeath_15 (by decide) ?_
  refine gx_isub C dX3_ofDeath_16 ?_
  refine gx_iload_n C dX3_ofDeath_17 rfl 1 rfl ?_
  refine gx_isub C dX3_ofDeath_18 ?_
  refine gx_imul C dX3_ofDeath_19 ?_
  refine gx_iadd C dX3_ofDeath_20 ?_
  refine gx_iload_n C dX3_ofDeath_21 rfl 2 rfl ?_
  refine gx_iadd C dX3_ofDeath_22 ?_
  obtain ⟨g23, h⟩ := h
  refine tm_ald0 C hK g23 dX3_ofDeath_23 ?_
  exact tm_iret C hK h dX3_ofDeath_24
/-! tellsDeath(II)I -/
abbrev rmX3_tellsDeath : Room := { frames := 1, cells := 0, slots := 0, locals := 22 }
theorem dmX3_tellsDeath : yX3_tellsDeath.cls ≠ "java/lang/invoke/MethodHandle" ∧ yX3_tellsDeath.cls ≠ "java/lang/invoke/VarHandle" ∧ (parseMethodDescriptor yX3_tellsDeath.desc).map (fun d => d.parameters.length) = some 2 := by decide +kernel
def tj_X3_tellsDeath_43 (M : MS) (s0 : Int32) (Q : Int32 → MS → Prop) : Prop :=
  Q s0 M
theorem tb_X3_tellsDeath_43 {l : Launch} {p : Program} {e : Env} {s : State} {m : MethodId} {args : Array Value} {below : List Frame} {meth : Method} {c : Code} {D : va_G} {g : Nat → Nat} {cI cJ : ClassId} (C : gx_C p s m args meth c cX3_tellsDeath 3 (some .int) RX3) (hK : va_K D gcl [(cI, .int), (cJ, .long)] s) {M : MS} {s0 : Int32} {Q : Int32 → MS → Prop} (h : tj_X3_tellsDeath_43 M s0 Q)  : gx_W p l e (headSpec (ws_ yX3_tellsDeath cX3_tellsDeath 3 (some .int)) rmX3_tellsDeath).room s m args below meth c 3 (tm_I D g cI cJ s M) 0 0 (MQ below (va_Qi Q (tm_B D g cI cJ s.heap.size) (tm_A g s.heap.size)) args s 0 0 (tm_A g s.heap.size)) 43 [] [.int s0] := by
  unfold tj_X3_tellsDeath_43 at h
  exact tm_iret C hK h dX3_tellsDeath_43
def tw_X3_tellsDeath (M : MS) (a1 : Int32) (a2 : Int32) (Q : Int32 → MS → Prop) : Prop :=
  (vp_in 9 754 ∧ pw_X3_within a1 0 ((ms_r M 0 9) - 1) (fun r12 => (∀ M23 : MS, M23 = ms_s M 0 (if r12 = 0 then 1 else 0) → (((M23.1 0) ≤ 0 → tw_X3_ofDeath M23 a1 a2 (fun r40 M40 => tj_X3_tellsDeath_43 M40 r40 Q)) ∧ (¬ (M23.1 0) ≤ 0 → tj_X3_tellsDeath_43 M23 0 Q)))))
theorem tk_X3_tellsDeath {l : Launch} {D : va_G} {g : Nat → Nat} {cI cJ : ClassId} {sz : Nat} {M : MS} {a1 : Int32} {a2 : Int32} {Q : Int32 → MS → Prop} (h : tw_X3_tellsDeath M a1 a2 Q) : tm_Met l yX3_tellsDeath cX3_tellsDeath 3 (some .int) rmX3_tellsDeath [.int a1, .int a2] D g cI cJ sz M (va_Qi Q (tm_B D g cI cJ sz) (tm_A g sz)) := by
  refine tm_entry (by decide) (Nat.le_of_ble_eq_true rfl) (fun p e s m args below meth c hsz C hK => ?_)
  subst hsz
  unfold tw_X3_tellsDeath at h
  show gx_W p l e (headSpec (ws_ yX3_tellsDeath cX3_tellsDeath 3 (some .int)) rmX3_tellsDeath).room s m args below meth c 3 (tm_I D g cI cJ s M) 0 0 (MQ below (va_Qi Q (tm_B D g cI cJ s.heap.size) (tm_A g s.heap.size)) args s 0 0 (tm_A g s.heap.size)) 0 [(0, .ref (g 0)), (1, .int a1), (2, .int a2)] []
  refine gx_aload_n C dX3_tellsDeath_0 rfl 0 rfl ?_
  refine gx_iload_n C dX3_tellsDeath_1 rfl 1 rfl ?_
  refine gx_iconst (v := 0) C dX3_tellsDeath_2 (by decide) ?_
  refine gx_aload_n C dX3_tellsDeath_3 rfl 0 rfl ?_
  refine tm_get C hK 1 (by decide) q2301 rfl rfl dX3_tellsDeath_4 ?_
  refine gx_bipush (v := 9) C dX3_tellsDeath_7 (by decide) ?_
  obtain ⟨g9, h⟩ := h
  refine tm_ald0 C hK g9 dX3_tellsDeath_9 ?_
  refine gx_iconst (v := 1) C dX3_tellsDeath_10 (by decide) ?_
  refine gx_isub C dX3_tellsDeath_11 ?_
  refine gx_calls_i (rest := [.ref (g 0)]) C (pk_X3_within h) (va_cwS 3 C.t (lw_S q2360 q2361 q130 q2362) rfl rfl rfl dmX3_within ⟨Nat.le_of_ble_eq_true rfl, Nat.le_of_ble_eq_true rfl⟩) rfl rfl (Nat.le_of_ble_eq_true rfl) ⟨Nat.zero_le _, Nat.zero_le _⟩ dX3_tellsDeath_12 (fun r12 h => ?_)
  refine gx_phii (t := (if r12 = 0 then 1 else 0)) (pc2 := 23) (lv2 := [(0, .ref (g 0)), (1, .int a1), (2, .int a2)]) (rest2 := [.ref (g 0)]) (fun key => ?_) ?_
  · refine gx_if_eq (tgt := 22) C dX3_tellsDeath_15 (by decide) (fun z1 => ?_) (fun z1 => ?_)
    · refine gx_iconst (v := 1) C dX3_tellsDeath_22 (by decide) ?_
      exact gx_casti (if_pos z1) key
    · refine gx_iconst (v := 0) C dX3_tellsDeath_18 (by decide) ?_
      refine gx_goto (tgt := 23) C dX3_tellsDeath_19 (by decide) ?_
      exact gx_casti (if_neg z1) key
  refine tm_put0 C hK q2300 dX3_tellsDeath_23 (fun M23 e_M23 => ?_)
  replace h := h M23 e_M23
  refine gx_aload_n C dX3_tellsDeath_26 rfl 0 rfl ?_
  refine tm_get C hK 0 (by decide) q2300 rfl rfl dX3_tellsDeath_27 ?_
  refine gx_if_le (tgt := 37) C dX3_tellsDeath_30 (by decide) (fun z => ?_) (fun z => ?_)
  · replace h := h.1 z
    refine gx_aload_n C dX3_tellsDeath_37 rfl 0 rfl ?_
    refine gx_iload_n C dX3_tellsDeath_38 rfl 1 rfl ?_
    refine gx_iload_n C dX3_tellsDeath_39 rfl 2 rfl ?_
    refine tm_calli (rest := []) C hK (fun sz => tk_X3_ofDeath h) (cwV 2 C.t (lw_V q2830 q2832 qs104 q130 q2833) rfl rfl rfl ⟨rfl, dmX3_ofDeath⟩ ⟨Nat.le_of_ble_eq_true rfl, Nat.le_of_ble_eq_true rfl⟩) rfl rfl (Nat.le_of_ble_eq_true rfl) dX3_tellsDeath_40 (fun r40 M40 h => ?_)
    refine gx_sub [] rfl ?_
    exact tb_X3_tellsDeath_43 C hK h
  · replace h := h.2 z
    refine gx_iconst (v := 0) C dX3_tellsDeath_33 (by decide) ?_
    refine gx_goto (tgt := 43) C dX3_tellsDeath_34 (by decide) ?_
    refine gx_sub [] rfl ?_
    exact tb_X3_tellsDeath_43 C hK h
/-! deathRing(I)I -/
abbrev rmX3_deathRing : Room := { frames := 2, cells := 0, slots := 0, locals := 44 }
theorem dmX3_deathRing : yX3_deathRing.cls ≠ "java/lang/invoke/MethodHandle" ∧ yX3_deathRing.cls ≠ "java/lang/invoke/VarHandle" ∧ (parseMethodDescriptor yX3_deathRing.desc).map (fun d => d.parameters.length) = some 1 := by decide +kernel
def tw_X3_deathRing (M : MS) (a1 : Int32) (Q : Int32 → MS → Prop) : Prop :=
  tw_X3_tellsDeath M a1 0 (fun r3 M3 => Q r3 M3)
theorem tk_X3_deathRing {l : Launch} {D : va_G} {g : Nat → Nat} {cI cJ : ClassId} {sz : Nat} {M : MS} {a1 : Int32} {Q : Int32 → MS → Prop} (h : tw_X3_deathRing M a1 Q) : tm_Met l yX3_deathRing cX3_deathRing 2 (some .int) rmX3_deathRing [.int a1] D g cI cJ sz M (va_Qi Q (tm_B D g cI cJ sz) (tm_A g sz)) := by
  refine tm_entry (by decide) (Nat.le_of_ble_eq_true rfl) (fun p e s m args below meth c hsz C hK => ?_)
  subst hsz
  unfold tw_X3_deathRing at h
  show gx_W p l e (headSpec (ws_ yX3_deathRing cX3_deathRing 2 (some .int)) rmX3_deathRing).room s m args below meth c 2 (tm_I D g cI cJ s M) 0 0 (MQ below (va_Qi Q (tm_B D g cI cJ s.heap.size) (tm_A g s.heap.size)) args s 0 0 (tm_A g s.heap.size)) 0 [(0, .ref (g 0)), (1, .int a1)] []
  refine gx_aload_n C dX3_deathRing_0 rfl 0 rfl ?_
  refine gx_iload_n C dX3_deathRing_1 rfl 1 rfl ?_
  refine gx_iconst (v := 0) C dX3_deathRing_2 (by decide) ?_
  refine tm_calli (rest := []) C hK (fun sz => tk_X3_tellsDeath h) (cwV 2 C.t (lw_V q2826 q2828 qs103 q130 q2829) rfl rfl rfl ⟨rfl, dmX3_tellsDeath⟩ ⟨Nat.le_of_ble_eq_true rfl, Nat.le_of_ble_eq_true rfl⟩) rfl rfl (Nat.le_of_ble_eq_true rfl) dX3_deathRing_3 (fun r3 M3 h => ?_)
  exact tm_iret C hK h dX3_deathRing_6
/-! deathCause(I)I -/
abbrev rmX3_deathCause : Room := { frames := 2, cells := 0, slots := 0, locals := 44 }
theorem dmX3_deathCause : yX3_deathCause.cls ≠ "java/lang/invoke/MethodHandle" ∧ yX3_deathCause.cls ≠ "java/lang/invoke/VarHandle" ∧ (parseMethodDescriptor yX3_deathCause.desc).map (fun d => d.parameters.length) = some 1 := by decide +kernel
def tw_X3_deathCause (M : MS) (a1 : Int32) (Q : Int32 → MS → Prop) : Prop :=
  tw_X3_tellsDeath M a1 1 (fun r3 M3 => Q r3 M3)
theorem tk_X3_deathCause {l : Launch} {D : va_G} {g : Nat → Nat} {cI cJ : ClassId} {sz : Nat} {M : MS} {a1 : Int32} {Q : Int32 → MS → Prop} (h : tw_X3_deathCause M a1 Q) : tm_Met l yX3_deathCause cX3_deathCause 2 (some .int) rmX3_deathCause [.int a1] D g cI cJ sz M (va_Qi Q (tm_B D g cI cJ sz) (tm_A g sz)) := by
  refine tm_entry (by decide) (Nat.le_of_ble_eq_true rfl) (fun p e s m args below meth c hsz C hK => ?_)
  subst hsz
  unfold tw_X3_deathCause at h
  show gx_W p l e (headSpec (ws_ yX3_deathCause cX3_deathCause 2 (some .int)) rmX3_deathCause).room s m args below meth c 2 (tm_I D g cI cJ s M) 0 0 (MQ below (va_Qi Q (tm_B D g cI cJ s.heap.size) (tm_A g s.heap.size)) args s 0 0 (tm_A g s.heap.size)) 0 [(0, .ref (g 0)), (1, .int a1)] []
  refine gx_aload_n C dX3_deathCause_0 rfl 0 rfl ?_
  refine gx_iload_n C dX3_deathCause_1 rfl 1 rfl ?_
  refine gx_iconst (v := 1) C dX3_deathCause_2 (by decide) ?_
  refine tm_calli (rest := []) C hK (fun sz => tk_X3_tellsDeath h) (cwV 2 C.t (lw_V q2826 q2828 qs103 q130 q2829) rfl rfl rfl ⟨rfl, dmX3_tellsDeath⟩ ⟨Nat.le_of_ble_eq_true rfl, Nat.le_of_ble_eq_true rfl⟩) rfl rfl (Nat.le_of_ble_eq_true rfl) dX3_deathCause_3 (fun r3 M3 h => ?_)
  exact tm_iret C hK h dX3_deathCause_6
/-! deathYear(I)I -/
abbrev rmX3_deathYear : Room := { frames := 2, cells := 0, slots := 0, locals := 44 }
theorem dmX3_deathYear : yX3_deathYear.cls ≠ "java/lang/invoke/MethodHandle" ∧ yX3_deathYear.cls ≠ "java/lang/invoke/VarHandle" ∧ (parseMethodDescriptor yX3_deathYear.desc).map (fun d => d.parameters.length) = some 1 := by decide +kernel
def tw_X3_deathYear (M : MS) (a1 : Int32) (Q : Int32 → MS → Prop) : Prop :=
  tw_X3_tellsDeath M a1 2 (fun r3 M3 => Q r3 M3)
theorem tk_X3_deathYear {l : Launch} {D : va_G} {g : Nat → Nat} {cI cJ : ClassId} {sz : Nat} {M : MS} {a1 : Int32} {Q : Int32 → MS → Prop} (h : tw_X3_deathYear M a1 Q) : tm_Met l yX3_deathYear cX3_deathYear 2 (some .int) rmX3_deathYear [.int a1] D g cI cJ sz M (va_Qi Q (tm_B D g cI cJ sz) (tm_A g sz)) := by
  refine tm_entry (by decide) (Nat.le_of_ble_eq_true rfl) (fun p e s m args below meth c hsz C hK => ?_)
  subst hsz
  unfold tw_X3_deathYear at h
  show gx_W p l e (headSpec (ws_ yX3_deathYear cX3_deathYear 2 (some .int)) rmX3_deathYear).room s m args below meth c 2 (tm_I D g cI cJ s M) 0 0 (MQ below (va_Qi Q (tm_B D g cI cJ s.heap.size) (tm_A g s.heap.size)) args s 0 0 (tm_A g s.heap.size)) 0 [(0, .ref (g 0)), (1, .int a1)] []
  refine gx_aload_n C dX3_deathYear_0 rfl 0 rfl ?_
  refine gx_iload_n C dX3_deathYear_1 rfl 1 rfl ?_
  refine gx_iconst (v := 2) C dX3_deathYear_2 (by decide) ?_
  refine tm_calli (rest := []) C hK (fun sz => tk_X3_tellsDeath h) (cwV 2 C.t (lw_V q2826 q2828 qs103 q130 q2829) rfl rfl rfl ⟨rfl, dmX3_tellsDeath⟩ ⟨Nat.le_of_ble_eq_true rfl, Nat.le_of_ble_eq_true rfl⟩) rfl rfl (Nat.le_of_ble_eq_true rfl) dX3_deathYear_3 (fun r3 M3 h => ?_)
  exact tm_iret C hK h dX3_deathYear_6
/-! bestForBox()I -/
abbrev rmX3_bestForBox : Room := { frames := 5, cells := 0, slots := 0, locals := 115 }
theorem dmX3_bestForBox : yX3_bestForBox.cls ≠ "java/lang/invoke/MethodHandle" ∧ yX3_bestForBox.cls ≠ "java/lang/invoke/VarHandle" ∧ (parseMethodDescriptor yX3_bestForBox.desc).map (fun d => d.parameters.length) = some 0 := by decide +kernel
def tj_X3_bestForBox_70 (M : MS) (a1 : Int32) (a2 : Int32) (a3 : Int32) (k10 : MS → Int32 → Int32 → Int32 → Prop) (Q : Int32 → MS → Prop) : Prop :=
  k10 M a1 a2 (a3 + 1)
theorem tb_X3_bestForBox_70 {l : Launch} {p : Program} {e : Env} {s : State} {m : MethodId} {args : Array Value} {below : List Frame} {meth : Method} {c : Code} {D : va_G} {g : Nat → Nat} {cI cJ : ClassId} (C : gx_C p s m args meth c cX3_bestForBox 5 (some .int) RX3) (hK : va_K D gcl [(cI, .int), (cJ, .long)] s) {M : MS} {a1 : Int32} {a2 : Int32} {a3 : Int32} {k10 : MS → Int32 → Int32 → Int32 → Prop} {Q : Int32 → MS → Prop} (h : tj_X3_bestForBox_70 M a1 a2 a3 k10 Q) (hk10 : ∀ (M : MS) (a1 : Int32) (a2 : Int32) (a3 : Int32), k10 M a1 a2 a3 → gx_W p l e (headSpec (ws_ yX3_bestForBox cX3_bestForBox 5 (some .int)) rmX3_bestForBox).room s m args below meth c 5 (tm_I D g cI cJ s M) 0 0 (MQ below (va_Qi Q (tm_B D g cI cJ s.heap.size) (tm_A g s.heap.size)) args s 0 0 (tm_A g s.heap.size)) 10 [(0, .ref (g 0)), (1, .int a1), (2, .int a2), (3, .int a3)] []) : gx_W p l e (headSpec (ws_ yX3_bestForBox cX3_bestForBox 5 (some .int)) rmX3_bestForBox).room s m args below meth c 5 (tm_I D g cI cJ s M) 0 0 (MQ below (va_Qi Q (tm_B D g cI cJ s.heap.size) (tm_A g s.heap.size)) args s 0 0 (tm_A g s.heap.size)) 70 [(0, .ref (g 0)), (1, .int a1), (2, .int a2), (3, .int a3)] [] := by
  unfold tj_X3_bestForBox_70 at h
  refine gx_iinc (v := a3 + 1) (k := 3) (lv' := [(3, .int (a3 + 1)), (0, .ref (g 0)), (1, .int a1), (2, .int a2)]) C dX3_bestForBox_70 rfl rfl (by decide) rfl ?_
  refine gx_goto (tgt := 10) C dX3_bestForBox_73 (by decide) ?_
  refine gx_sub [1, 2, 3, 0] rfl ?_
  exact hk10 M a1 a2 (a3 + 1) h
def tj_X3_bestForBox_10 (M : MS) (a1 : Int32) (a2 : Int32) (a3 : Int32) (k10 : MS → Int32 → Int32 → Int32 → Prop) (Q : Int32 → MS → Prop) : Prop :=
  ((64 ≤ a3 → Q a1 M) ∧ (¬ (64 ≤ a3) → tw_X3_isRoad M a3 (fun r18 M18 => ((r18 = 0 → tw_X3_boxAt M18 a3 (fun r26 M26 => ((r26 = (-1) → tw_X3_rangeFrom M26 a3 (fun r36 M36 => tw_X3_shareIn M36 r36 1 (fun r40 M40 => tj_X3_bestForBox_70 M40 ((if r40 ≤ a2 then a1 else a3)) ((if r40 ≤ a2 then a2 else r40)) a3 k10 Q))) ∧ (¬ (r26 = (-1)) → tj_X3_bestForBox_70 M26 a1 a2 a3 k10 Q)))) ∧ (¬ (r18 = 0) → tj_X3_bestForBox_70 M18 a1 a2 a3 k10 Q)))))
theorem tb_X3_bestForBox_10 {l : Launch} {p : Program} {e : Env} {s : State} {m : MethodId} {args : Array Value} {below : List Frame} {meth : Method} {c : Code} {D : va_G} {g : Nat → Nat} {cI cJ : ClassId} (C : gx_C p s m args meth c cX3_bestForBox 5 (some .int) RX3) (hK : va_K D gcl [(cI, .int), (cJ, .long)] s) {M : MS} {a1 : Int32} {a2 : Int32} {a3 : Int32} {k10 : MS → Int32 → Int32 → Int32 → Prop} {Q : Int32 → MS → Prop} (h : tj_X3_bestForBox_10 M a1 a2 a3 k10 Q) (hk10 : ∀ (M : MS) (a1 : Int32) (a2 : Int32) (a3 : Int32), k10 M a1 a2 a3 → gx_W p l e (headSpec (ws_ yX3_bestForBox cX3_bestForBox 5 (some .int)) rmX3_bestForBox).room s m args below meth c 5 (tm_I D g cI cJ s M) 0 0 (MQ below (va_Qi Q (tm_B D g cI cJ s.heap.size) (tm_A g s.heap.size)) args s 0 0 (tm_A g s.heap.size)) 10 [(0, .ref (g 0)), (1, .int a1), (2, .int a2), (3, .int a3)] []) : gx_W p l e (headSpec (ws_ yX3_bestForBox cX3_bestForBox 5 (some .int)) rmX3_bestForBox).room s m args below meth c 5 (tm_I D g cI cJ s M) 0 0 (MQ below (va_Qi Q (tm_B D g cI cJ s.heap.size) (tm_A g s.heap.size)) args s 0 0 (tm_A g s.heap.size)) 10 [(0, .ref (g 0)), (1, .int a1), (2, .int a2), (3, .int a3)] [] := by
  unfold tj_X3_bestForBox_10 at h
  refine gx_iload_n C dX3_bestForBox_10 rfl 3 rfl ?_
  refine gx_bipush (v := 64) C dX3_bestForBox_11 (by decide) ?_
  refine gx_icmp_ge (tgt := 76) C dX3_bestForBox_13 (by decide) (fun z => ?_) (fun z => ?_)
  · replace h := h.1 z
    refine gx_iload_n C dX3_bestForBox_76 rfl 1 rfl ?_
    exact tm_iret C hK h dX3_bestForBox_77
  · replace h := h.2 z
    refine gx_aload_n C dX3_bestForBox_16 rfl 0 rfl ?_
    refine gx_iload_n C dX3_bestForBox_17 rfl 3 rfl ?_
    refine tm_calli (rest := []) C hK (fun sz => tk_X3_isRoad h) (cwV 1 C.t (lw_V q2390 q2392 qs50 q130 q2393) rfl rfl rfl ⟨rfl, dmX3_isRoad⟩ ⟨Nat.le_of_ble_eq_true rfl, Nat.le_of_ble_eq_true rfl⟩) rfl rfl (Nat.le_of_ble_eq_true rfl) dX3_bestForBox_18 (fun r18 M18 h => ?_)
    refine gx_if_ne (tgt := 70) C dX3_bestForBox_21 (by decide) (fun z => ?_) (fun z => ?_)
    · replace h := h.2 z
      exact tb_X3_bestForBox_70 C hK h hk10
    · replace h := h.1 z
      refine gx_aload_n C dX3_bestForBox_24 rfl 0 rfl ?_
      refine gx_iload_n C dX3_bestForBox_25 rfl 3 rfl ?_
      refine tm_calli (rest := []) C hK (fun sz => tk_X3_boxAt h) (cwV 1 C.t (lw_V q2367 q2369 qs46 q130 q2370) rfl rfl rfl ⟨rfl, dmX3_boxAt⟩ ⟨Nat.le_of_ble_eq_true rfl, Nat.le_of_ble_eq_true rfl⟩) rfl rfl (Nat.le_of_ble_eq_true rfl) dX3_bestForBox_26 (fun r26 M26 h => ?_)
      refine gx_iconst (v := (-1)) C dX3_bestForBox_29 (by decide) ?_
      refine gx_icmp_ne (tgt := 70) C dX3_bestForBox_30 (by decide) (fun z => ?_) (fun z => ?_)
      · replace h := h.2 z
        exact tb_X3_bestForBox_70 C hK h hk10
      · replace h := h.1 z
        refine gx_aload_n C dX3_bestForBox_33 rfl 0 rfl ?_
        refine gx_aload_n C dX3_bestForBox_34 rfl 0 rfl ?_
        refine gx_iload_n C dX3_bestForBox_35 rfl 3 rfl ?_
        refine tm_calll (rest := [.ref (g 0)]) C hK (fun sz => tk_X3_rangeFrom h) (cwV 1 C.t (lw_V q2493 q2495 qs67 q130 q2496) rfl rfl rfl ⟨rfl, dmX3_rangeFrom⟩ ⟨Nat.le_of_ble_eq_true rfl, Nat.le_of_ble_eq_true rfl⟩) rfl rfl (Nat.le_of_ble_eq_true rfl) dX3_bestForBox_36 (fun r36 M36 h => ?_)
        refine gx_iconst (v := 1) C dX3_bestForBox_39 (by decide) ?_
        refine tm_calli (rest := []) C hK (fun sz => tk_X3_shareIn h) (cwV 2 C.t (lw_V q2521 q2523 qs71 q130 q2524) rfl rfl rfl ⟨rfl, dmX3_shareIn⟩ ⟨Nat.le_of_ble_eq_true rfl, Nat.le_of_ble_eq_true rfl⟩) rfl rfl (Nat.le_of_ble_eq_true rfl) dX3_bestForBox_40 (fun r40 M40 h => ?_)
        refine gx_istore (lv' := [(4, .int r40), (0, .ref (g 0)), (1, .int a1), (2, .int a2), (3, .int a3)]) C dX3_bestForBox_43 (by decide) rfl ?_
        refine gx_iload C dX3_bestForBox_45 0 rfl ?_
        refine gx_iload_n C dX3_bestForBox_47 rfl 3 rfl ?_
        refine gx_phii (t := (if r40 ≤ a2 then a1 else a3)) (pc2 := 56) (lv2 := [(4, .int r40), (0, .ref (g 0)), (1, .int a1), (2, .int a2), (3, .int a3)]) (rest2 := []) (fun key => ?_) ?_
        · refine gx_icmp_le (tgt := 55) C dX3_bestForBox_48 (by decide) (fun z1 => ?_) (fun z1 => ?_)
          · refine gx_iload_n C dX3_bestForBox_55 rfl 2 rfl ?_
            exact gx_casti (if_pos z1) key
          · refine gx_iload_n C dX3_bestForBox_51 rfl 4 rfl ?_
            refine gx_goto (tgt := 56) C dX3_bestForBox_52 (by decide) ?_
            exact gx_casti (if_neg z1) key
        refine gx_istore_n (lv' := [(1, .int ((if r40 ≤ a2 then a1 else a3))), (4, .int r40), (0, .ref (g 0)), (2, .int a2), (3, .int a3)]) C dX3_bestForBox_56 rfl (by decide) rfl ?_
        refine gx_iload C dX3_bestForBox_57 1 rfl ?_
        refine gx_iload_n C dX3_bestForBox_59 rfl 3 rfl ?_
        refine gx_phii (t := (if r40 ≤ a2 then a2 else r40)) (pc2 := 69) (lv2 := [(1, .int ((if r40 ≤ a2 then a1 else a3))), (4, .int r40), (0, .ref (g 0)), (2, .int a2), (3, .int a3)]) (rest2 := []) (fun key => ?_) ?_
        · refine gx_icmp_le (tgt := 68) C dX3_bestForBox_60 (by decide) (fun z1 => ?_) (fun z1 => ?_)
          · refine gx_iload_n C dX3_bestForBox_68 rfl 3 rfl ?_
            exact gx_casti (if_pos z1) key
          · refine gx_iload C dX3_bestForBox_63 1 rfl ?_
            refine gx_goto (tgt := 69) C dX3_bestForBox_65 (by decide) ?_
            exact gx_casti (if_neg z1) key
        refine gx_istore_n (lv' := [(2, .int ((if r40 ≤ a2 then a2 else r40))), (1, .int ((if r40 ≤ a2 then a1 else a3))), (4, .int r40), (0, .ref (g 0)), (3, .int a3)]) C dX3_bestForBox_69 rfl (by decide) rfl ?_
        refine gx_sub [3, 1, 0, 4] rfl ?_
        exact tb_X3_bestForBox_70 C hK h hk10
def tl_X3_bestForBox_10 (Q : Int32 → MS → Prop) : Nat → MS → Int32 → Int32 → Int32 → Prop
  | 0, _, _, _, _ => False
  | n + 1, M, a1, a2, a3 => tj_X3_bestForBox_10 M a1 a2 a3 (fun M a1 a2 a3 => tl_X3_bestForBox_10 Q n M a1 a2 a3) Q
theorem te_X3_bestForBox_10 {l : Launch} {p : Program} {e : Env} {s : State} {m : MethodId} {args : Array Value} {below : List Frame} {meth : Method} {c : Code} {D : va_G} {g : Nat → Nat} {cI cJ : ClassId} (C : gx_C p s m args meth c cX3_bestForBox 5 (some .int) RX3) (hK : va_K D gcl [(cI, .int), (cJ, .long)] s) {Q : Int32 → MS → Prop}  (n : Nat) : ∀ (M : MS) (a1 : Int32) (a2 : Int32) (a3 : Int32), tl_X3_bestForBox_10 Q n M a1 a2 a3 → gx_W p l e (headSpec (ws_ yX3_bestForBox cX3_bestForBox 5 (some .int)) rmX3_bestForBox).room s m args below meth c 5 (tm_I D g cI cJ s M) 0 0 (MQ below (va_Qi Q (tm_B D g cI cJ s.heap.size) (tm_A g s.heap.size)) args s 0 0 (tm_A g s.heap.size)) 10 [(0, .ref (g 0)), (1, .int a1), (2, .int a2), (3, .int a3)] [] := by
  induction n with
  | zero => intro M a1 a2 a3 h; exact False.elim h
  | succ n ih => intro M a1 a2 a3 h; exact tb_X3_bestForBox_10 C hK (show tj_X3_bestForBox_10 M a1 a2 a3 (fun M a1 a2 a3 => tl_X3_bestForBox_10 Q n M a1 a2 a3) Q from h) (fun M a1 a2 a3 h => ih M a1 a2 a3 h)
def tw_X3_bestForBox (M : MS) (Q : Int32 → MS → Prop) : Prop :=
  tw_X3_laysRanges M (fun M1 => ∃ n : Nat, tl_X3_bestForBox_10 Q n M1 (-1) (-1) 0)
theorem tk_X3_bestForBox {l : Launch} {D : va_G} {g : Nat → Nat} {cI cJ : ClassId} {sz : Nat} {M : MS} {Q : Int32 → MS → Prop} (h : tw_X3_bestForBox M Q) : tm_Met l yX3_bestForBox cX3_bestForBox 5 (some .int) rmX3_bestForBox [] D g cI cJ sz M (va_Qi Q (tm_B D g cI cJ sz) (tm_A g sz)) := by
  refine tm_entry (by decide) (Nat.le_of_ble_eq_true rfl) (fun p e s m args below meth c hsz C hK => ?_)
  subst hsz
  unfold tw_X3_bestForBox at h
  show gx_W p l e (headSpec (ws_ yX3_bestForBox cX3_bestForBox 5 (some .int)) rmX3_bestForBox).room s m args below meth c 5 (tm_I D g cI cJ s M) 0 0 (MQ below (va_Qi Q (tm_B D g cI cJ s.heap.size) (tm_A g s.heap.size)) args s 0 0 (tm_A g s.heap.size)) 0 [(0, .ref (g 0))] []
  refine gx_aload_n C dX3_bestForBox_0 rfl 0 rfl ?_
  refine tm_callv (rest := []) C hK (fun sz => tk_X3_laysRanges h) (cwV 0 C.t (lw_V q2489 q2491 qs66 q130 q2492) rfl rfl rfl ⟨rfl, dmX3_laysRanges⟩ ⟨Nat.le_of_ble_eq_true rfl, Nat.le_of_ble_eq_true rfl⟩) rfl rfl (Nat.le_of_ble_eq_true rfl) dX3_bestForBox_1 (fun M1 h => ?_)
  refine gx_iconst (v := (-1)) C dX3_bestForBox_4 (by decide) ?_
  refine gx_istore_n (lv' := [(1, .int ((-1))), (0, .ref (g 0))]) C dX3_bestForBox_5 rfl (by decide) rfl ?_
  refine gx_iconst (v := (-1)) C dX3_bestForBox_6 (by decide) ?_
  refine gx_istore_n (lv' := [(2, .int ((-1))), (1, .int ((-1))), (0, .ref (g 0))]) C dX3_bestForBox_7 rfl (by decide) rfl ?_
  refine gx_iconst (v := 0) C dX3_bestForBox_8 (by decide) ?_
  refine gx_istore_n (lv' := [(3, .int 0), (2, .int ((-1))), (1, .int ((-1))), (0, .ref (g 0))]) C dX3_bestForBox_9 rfl (by decide) rfl ?_
  refine gx_sub [3, 2, 1, 0] rfl ?_
  obtain ⟨n, h⟩ := h
  exact te_X3_bestForBox_10 C hK n M1 (-1) (-1) 0 h
/-! bestSquare()I -/
abbrev rmX3_bestSquare : Room := { frames := 6, cells := 0, slots := 0, locals := 139 }
theorem dmX3_bestSquare : yX3_bestSquare.cls ≠ "java/lang/invoke/MethodHandle" ∧ yX3_bestSquare.cls ≠ "java/lang/invoke/VarHandle" ∧ (parseMethodDescriptor yX3_bestSquare.desc).map (fun d => d.parameters.length) = some 0 := by decide +kernel
def tw_X3_bestSquare (M : MS) (Q : Int32 → MS → Prop) : Prop :=
  tw_X3_bestForBox M (fun r2 M2 => tw_X3_tells M2 r2 (fun r5 M5 => Q r5 M5))
theorem tk_X3_bestSquare {l : Launch} {D : va_G} {g : Nat → Nat} {cI cJ : ClassId} {sz : Nat} {M : MS} {Q : Int32 → MS → Prop} (h : tw_X3_bestSquare M Q) : tm_Met l yX3_bestSquare cX3_bestSquare 1 (some .int) rmX3_bestSquare [] D g cI cJ sz M (va_Qi Q (tm_B D g cI cJ sz) (tm_A g sz)) := by
  refine tm_entry (by decide) (Nat.le_of_ble_eq_true rfl) (fun p e s m args below meth c hsz C hK => ?_)
  subst hsz
  unfold tw_X3_bestSquare at h
  show gx_W p l e (headSpec (ws_ yX3_bestSquare cX3_bestSquare 1 (some .int)) rmX3_bestSquare).room s m args below meth c 1 (tm_I D g cI cJ s M) 0 0 (MQ below (va_Qi Q (tm_B D g cI cJ s.heap.size) (tm_A g s.heap.size)) args s 0 0 (tm_A g s.heap.size)) 0 [(0, .ref (g 0))] []
  refine gx_aload_n C dX3_bestSquare_0 rfl 0 rfl ?_
  refine gx_aload_n C dX3_bestSquare_1 rfl 0 rfl ?_
  refine tm_calli (rest := [.ref (g 0)]) C hK (fun sz => tk_X3_bestForBox h) (cwV 0 C.t (lw_V q2846 q2848 qs105 q130 q2849) rfl rfl rfl ⟨rfl, dmX3_bestForBox⟩ ⟨Nat.le_of_ble_eq_true rfl, Nat.le_of_ble_eq_true rfl⟩) rfl rfl (Nat.le_of_ble_eq_true rfl) dX3_bestSquare_2 (fun r2 M2 h => ?_)
  refine tm_calli (rest := []) C hK (fun sz => tk_X3_tells h) (cwV 1 C.t (lw_V q2570 q2572 qs82 q130 q2573) rfl rfl rfl ⟨rfl, dmX3_tells⟩ ⟨Nat.le_of_ble_eq_true rfl, Nat.le_of_ble_eq_true rfl⟩) rfl rfl (Nat.le_of_ble_eq_true rfl) dX3_bestSquare_5 (fun r5 M5 h => ?_)
  exact tm_iret C hK h dX3_bestSquare_8
/-! keeps()V -/
abbrev rmX3_keeps : Room := { frames := 0, cells := 0, slots := 0, locals := 0 }
theorem dmX3_keeps : yX3_keeps.cls ≠ "java/lang/invoke/MethodHandle" ∧ yX3_keeps.cls ≠ "java/lang/invoke/VarHandle" ∧ (parseMethodDescriptor yX3_keeps.desc).map (fun d => d.parameters.length) = some 0 := by decide +kernel
def tj_X3_keeps_2 (M : MS) (a1 : Int32) (k2 : MS → Int32 → Prop) (Q : MS → Prop) : Prop :=
  ((754 ≤ a1 → Q M) ∧ (¬ (754 ≤ a1) → (vp_in a1 754 ∧ (vp_in a1 754 ∧ ∀ M20 : MS, M20 = ms_a M 3 a1 (ms_r M 0 a1) → k2 M20 (a1 + 1)))))
theorem tb_X3_keeps_2 {l : Launch} {p : Program} {e : Env} {s : State} {m : MethodId} {args : Array Value} {below : List Frame} {meth : Method} {c : Code} {D : va_G} {g : Nat → Nat} {cI cJ : ClassId} (C : gx_C p s m args meth c cX3_keeps 2 none RX3) (hK : va_K D gcl [(cI, .int), (cJ, .long)] s) {M : MS} {a1 : Int32} {k2 : MS → Int32 → Prop} {Q : MS → Prop} (h : tj_X3_keeps_2 M a1 k2 Q) (hk2 : ∀ (M : MS) (a1 : Int32), k2 M a1 → gx_W p l e (headSpec (ws_ yX3_keeps cX3_keeps 2 none) rmX3_keeps).room s m args below meth c 2 (tm_I D g cI cJ s M) 0 0 (MQ below (va_Qv Q (tm_B D g cI cJ s.heap.size) (tm_A g s.heap.size)) args s 0 0 (tm_A g s.heap.size)) 2 [(0, .ref (g 0)), (1, .int a1)] []) : gx_W p l e (headSpec (ws_ yX3_keeps cX3_keeps 2 none) rmX3_keeps).room s m args below meth c 2 (tm_I D g cI cJ s M) 0 0 (MQ below (va_Qv Q (tm_B D g cI cJ s.heap.size) (tm_A g s.heap.size)) args s 0 0 (tm_A g s.heap.size)) 2 [(0, .ref (g 0)), (1, .int a1)] [] := by
  unfold tj_X3_keeps_2 at h
  refine gx_iload_n C dX3_keeps_2 rfl 1 rfl ?_
  refine gx_sipush (v := 754) C dX3_keeps_3 (by decide) ?_
  refine gx_icmp_ge (tgt := 27) C dX3_keeps_6 (by decide) (fun z => ?_) (fun z => ?_)
  · replace h := h.1 z
    exact tm_vret C hK h dX3_keeps_27
  · replace h := h.2 z
    refine gx_aload_n C dX3_keeps_9 rfl 0 rfl ?_
    refine tm_get C hK 6 (by decide) q2306 rfl rfl dX3_keeps_10 ?_
    refine gx_iload_n C dX3_keeps_13 rfl 1 rfl ?_
    refine gx_aload_n C dX3_keeps_14 rfl 0 rfl ?_
    refine tm_get C hK 1 (by decide) q2301 rfl rfl dX3_keeps_15 ?_
    refine gx_iload_n C dX3_keeps_18 rfl 1 rfl ?_
    obtain ⟨g19, h⟩ := h
    refine tm_ald0 C hK g19 dX3_keeps_19 ?_
    obtain ⟨g20, h⟩ := h
    refine tm_ast3 C hK g20 dX3_keeps_20 (fun M20 e_M20 => ?_)
    replace h := h M20 e_M20
    refine gx_iinc (v := a1 + 1) (k := 1) (lv' := [(1, .int (a1 + 1)), (0, .ref (g 0))]) C dX3_keeps_21 rfl rfl (by decide) rfl ?_
    refine gx_goto (tgt := 2) C dX3_keeps_24 (by decide) ?_
    refine gx_sub [1, 0] rfl ?_
    exact hk2 M20 (a1 + 1) h
def tl_X3_keeps_2 (Q : MS → Prop) : Nat → MS → Int32 → Prop
  | 0, _, _ => False
  | n + 1, M, a1 => tj_X3_keeps_2 M a1 (fun M a1 => tl_X3_keeps_2 Q n M a1) Q
theorem te_X3_keeps_2 {l : Launch} {p : Program} {e : Env} {s : State} {m : MethodId} {args : Array Value} {below : List Frame} {meth : Method} {c : Code} {D : va_G} {g : Nat → Nat} {cI cJ : ClassId} (C : gx_C p s m args meth c cX3_keeps 2 none RX3) (hK : va_K D gcl [(cI, .int), (cJ, .long)] s) {Q : MS → Prop}  (n : Nat) : ∀ (M : MS) (a1 : Int32), tl_X3_keeps_2 Q n M a1 → gx_W p l e (headSpec (ws_ yX3_keeps cX3_keeps 2 none) rmX3_keeps).room s m args below meth c 2 (tm_I D g cI cJ s M) 0 0 (MQ below (va_Qv Q (tm_B D g cI cJ s.heap.size) (tm_A g s.heap.size)) args s 0 0 (tm_A g s.heap.size)) 2 [(0, .ref (g 0)), (1, .int a1)] [] := by
  induction n with
  | zero => intro M a1 h; exact False.elim h
  | succ n ih => intro M a1 h; exact tb_X3_keeps_2 C hK (show tj_X3_keeps_2 M a1 (fun M a1 => tl_X3_keeps_2 Q n M a1) Q from h) (fun M a1 h => ih M a1 h)
def tw_X3_keeps (M : MS) (Q : MS → Prop) : Prop :=
  ∃ n : Nat, tl_X3_keeps_2 Q n M 0
theorem tk_X3_keeps {l : Launch} {D : va_G} {g : Nat → Nat} {cI cJ : ClassId} {sz : Nat} {M : MS} {Q : MS → Prop} (h : tw_X3_keeps M Q) : tm_Met l yX3_keeps cX3_keeps 2 none rmX3_keeps [] D g cI cJ sz M (va_Qv Q (tm_B D g cI cJ sz) (tm_A g sz)) := by
  refine tm_entry (by decide) (Nat.le_of_ble_eq_true rfl) (fun p e s m args below meth c hsz C hK => ?_)
  subst hsz
  unfold tw_X3_keeps at h
  show gx_W p l e (headSpec (ws_ yX3_keeps cX3_keeps 2 none) rmX3_keeps).room s m args below meth c 2 (tm_I D g cI cJ s M) 0 0 (MQ below (va_Qv Q (tm_B D g cI cJ s.heap.size) (tm_A g s.heap.size)) args s 0 0 (tm_A g s.heap.size)) 0 [(0, .ref (g 0))] []
  refine gx_iconst (v := 0) C dX3_keeps_0 (by decide) ?_
  refine gx_istore_n (lv' := [(1, .int 0), (0, .ref (g 0))]) C dX3_keeps_1 rfl (by decide) rfl ?_
  refine gx_sub [1, 0] rfl ?_
  obtain ⟨n, h⟩ := h
  exact te_X3_keeps_2 C hK n M 0 h
/-! returns()V -/
abbrev rmX3_returns : Room := { frames := 0, cells := 0, slots := 0, locals := 0 }
theorem dmX3_returns : yX3_returns.cls ≠ "java/lang/invoke/MethodHandle" ∧ yX3_returns.cls ≠ "java/lang/invoke/VarHandle" ∧ (parseMethodDescriptor yX3_returns.desc).map (fun d => d.parameters.length) = some 0 := by decide +kernel
def tj_X3_returns_2 (M : MS) (a1 : Int32) (k2 : MS → Int32 → Prop) (Q : MS → Prop) : Prop :=
  ((754 ≤ a1 → Q M) ∧ (¬ (754 ≤ a1) → (vp_in a1 754 ∧ (vp_in a1 754 ∧ ∀ M20 : MS, M20 = ms_a M 0 a1 (ms_r M 3 a1) → k2 M20 (a1 + 1)))))
theorem tb_X3_returns_2 {l : Launch} {p : Program} {e : Env} {s : State} {m : MethodId} {args : Array Value} {below : List Frame} {meth : Method} {c : Code} {D : va_G} {g : Nat → Nat} {cI cJ : ClassId} (C : gx_C p s m args meth c cX3_returns 2 none RX3) (hK : va_K D gcl [(cI, .int), (cJ, .long)] s) {M : MS} {a1 : Int32} {k2 : MS → Int32 → Prop} {Q : MS → Prop} (h : tj_X3_returns_2 M a1 k2 Q) (hk2 : ∀ (M : MS) (a1 : Int32), k2 M a1 → gx_W p l e (headSpec (ws_ yX3_returns cX3_returns 2 none) rmX3_returns).room s m args below meth c 2 (tm_I D g cI cJ s M) 0 0 (MQ below (va_Qv Q (tm_B D g cI cJ s.heap.size) (tm_A g s.heap.size)) args s 0 0 (tm_A g s.heap.size)) 2 [(0, .ref (g 0)), (1, .int a1)] []) : gx_W p l e (headSpec (ws_ yX3_returns cX3_returns 2 none) rmX3_returns).room s m args below meth c 2 (tm_I D g cI cJ s M) 0 0 (MQ below (va_Qv Q (tm_B D g cI cJ s.heap.size) (tm_A g s.heap.size)) args s 0 0 (tm_A g s.heap.size)) 2 [(0, .ref (g 0)), (1, .int a1)] [] := by
  unfold tj_X3_returns_2 at h
  refine gx_iload_n C dX3_returns_2 rfl 1 rfl ?_
  refine gx_sipush (v := 754) C dX3_returns_3 (by decide) ?_
  refine gx_icmp_ge (tgt := 27) C dX3_returns_6 (by decide) (fun z => ?_) (fun z => ?_)
  · replace h := h.1 z
    exact tm_vret C hK h dX3_returns_27
  · replace h := h.2 z
    refine gx_aload_n C dX3_returns_9 rfl 0 rfl ?_
    refine tm_get C hK 1 (by decide) q2301 rfl rfl dX3_returns_10 ?_
    refine gx_iload_n C dX3_returns_13 rfl 1 rfl ?_
    refine gx_aload_n C dX3_returns_14 rfl 0 rfl ?_
    refine tm_get C hK 6 (by decide) q2306 rfl rfl dX3_returns_15 ?_
    refine gx_iload_n C dX3_returns_18 rfl 1 rfl ?_
    obtain ⟨g19, h⟩ := h
    refine tm_ald3 C hK g19 dX3_returns_19 ?_
    obtain ⟨g20, h⟩ := h
    refine tm_ast0 C hK g20 dX3_returns_20 (fun M20 e_M20 => ?_)
    replace h := h M20 e_M20
    refine gx_iinc (v := a1 + 1) (k := 1) (lv' := [(1, .int (a1 + 1)), (0, .ref (g 0))]) C dX3_returns_21 rfl rfl (by decide) rfl ?_
    refine gx_goto (tgt := 2) C dX3_returns_24 (by decide) ?_
    refine gx_sub [1, 0] rfl ?_
    exact hk2 M20 (a1 + 1) h
def tl_X3_returns_2 (Q : MS → Prop) : Nat → MS → Int32 → Prop
  | 0, _, _ => False
  | n + 1, M, a1 => tj_X3_returns_2 M a1 (fun M a1 => tl_X3_returns_2 Q n M a1) Q
theorem te_X3_returns_2 {l : Launch} {p : Program} {e : Env} {s : State} {m : MethodId} {args : Array Value} {below : List Frame} {meth : Method} {c : Code} {D : va_G} {g : Nat → Nat} {cI cJ : ClassId} (C : gx_C p s m args meth c cX3_returns 2 none RX3) (hK : va_K D gcl [(cI, .int), (cJ, .long)] s) {Q : MS → Prop}  (n : Nat) : ∀ (M : MS) (a1 : Int32), tl_X3_returns_2 Q n M a1 → gx_W p l e (headSpec (ws_ yX3_returns cX3_returns 2 none) rmX3_returns).room s m args below meth c 2 (tm_I D g cI cJ s M) 0 0 (MQ below (va_Qv Q (tm_B D g cI cJ s.heap.size) (tm_A g s.heap.size)) args s 0 0 (tm_A g s.heap.size)) 2 [(0, .ref (g 0)), (1, .int a1)] [] := by
  induction n with
  | zero => intro M a1 h; exact False.elim h
  | succ n ih => intro M a1 h; exact tb_X3_returns_2 C hK (show tj_X3_returns_2 M a1 (fun M a1 => tl_X3_returns_2 Q n M a1) Q from h) (fun M a1 h => ih M a1 h)
def tw_X3_returns (M : MS) (Q : MS → Prop) : Prop :=
  ∃ n : Nat, tl_X3_returns_2 Q n M 0
theorem tk_X3_returns {l : Launch} {D : va_G} {g : Nat → Nat} {cI cJ : ClassId} {sz : Nat} {M : MS} {Q : MS → Prop} (h : tw_X3_returns M Q) : tm_Met l yX3_returns cX3_returns 2 none rmX3_returns [] D g cI cJ sz M (va_Qv Q (tm_B D g cI cJ sz) (tm_A g sz)) := by
  refine tm_entry (by decide) (Nat.le_of_ble_eq_true rfl) (fun p e s m args below meth c hsz C hK => ?_)
  subst hsz
  unfold tw_X3_returns at h
  show gx_W p l e (headSpec (ws_ yX3_returns cX3_returns 2 none) rmX3_returns).room s m args below meth c 2 (tm_I D g cI cJ s M) 0 0 (MQ below (va_Qv Q (tm_B D g cI cJ s.heap.size) (tm_A g s.heap.size)) args s 0 0 (tm_A g s.heap.size)) 0 [(0, .ref (g 0))] []
  refine gx_iconst (v := 0) C dX3_returns_0 (by decide) ?_
  refine gx_istore_n (lv' := [(1, .int 0), (0, .ref (g 0))]) C dX3_returns_1 rfl (by decide) rfl ?_
  refine gx_sub [1, 0] rfl ?_
  obtain ⟨n, h⟩ := h
  exact te_X3_returns_2 C hK n M 0 h
/-! owlsThen(I)I -/
abbrev rmX3_owlsThen : Room := { frames := 11, cells := 0, slots := 0, locals := 249 }
theorem dmX3_owlsThen : yX3_owlsThen.cls ≠ "java/lang/invoke/MethodHandle" ∧ yX3_owlsThen.cls ≠ "java/lang/invoke/VarHandle" ∧ (parseMethodDescriptor yX3_owlsThen.desc).map (fun d => d.parameters.length) = some 1 := by decide +kernel
def tw_X3_owlsThen (M : MS) (a1 : Int32) (Q : Int32 → MS → Prop) : Prop :=
  tw_X3_keeps M (fun M1 => tw_X3_years M1 a1 (fun r6 M6 => tw_X3_returns M6 (fun M11 => Q r6 M11)))
theorem tk_X3_owlsThen {l : Launch} {D : va_G} {g : Nat → Nat} {cI cJ : ClassId} {sz : Nat} {M : MS} {a1 : Int32} {Q : Int32 → MS → Prop} (h : tw_X3_owlsThen M a1 Q) : tm_Met l yX3_owlsThen cX3_owlsThen 3 (some .int) rmX3_owlsThen [.int a1] D g cI cJ sz M (va_Qi Q (tm_B D g cI cJ sz) (tm_A g sz)) := by
  refine tm_entry (by decide) (Nat.le_of_ble_eq_true rfl) (fun p e s m args below meth c hsz C hK => ?_)
  subst hsz
  unfold tw_X3_owlsThen at h
  show gx_W p l e (headSpec (ws_ yX3_owlsThen cX3_owlsThen 3 (some .int)) rmX3_owlsThen).room s m args below meth c 3 (tm_I D g cI cJ s M) 0 0 (MQ below (va_Qi Q (tm_B D g cI cJ s.heap.size) (tm_A g s.heap.size)) args s 0 0 (tm_A g s.heap.size)) 0 [(0, .ref (g 0)), (1, .int a1)] []
  refine gx_aload_n C dX3_owlsThen_0 rfl 0 rfl ?_
  refine tm_callv (rest := []) C hK (fun sz => tk_X3_keeps h) (cwV 0 C.t (lw_V q2858 q2860 qs107 q130 q2861) rfl rfl rfl ⟨rfl, dmX3_keeps⟩ ⟨Nat.le_of_ble_eq_true rfl, Nat.le_of_ble_eq_true rfl⟩) rfl rfl (Nat.le_of_ble_eq_true rfl) dX3_owlsThen_1 (fun M1 h => ?_)
  refine gx_aload_n C dX3_owlsThen_4 rfl 0 rfl ?_
  refine gx_iload_n C dX3_owlsThen_5 rfl 1 rfl ?_
  refine tm_calli (rest := []) C hK (fun sz => tk_X3_years h) (cwV 1 C.t (lw_V q2481 q2483 qs64 q130 q2484) rfl rfl rfl ⟨rfl, dmX3_years⟩ ⟨Nat.le_of_ble_eq_true rfl, Nat.le_of_ble_eq_true rfl⟩) rfl rfl (Nat.le_of_ble_eq_true rfl) dX3_owlsThen_6 (fun r6 M6 h => ?_)
  refine gx_istore_n (lv' := [(2, .int r6), (0, .ref (g 0)), (1, .int a1)]) C dX3_owlsThen_9 rfl (by decide) rfl ?_
  refine gx_aload_n C dX3_owlsThen_10 rfl 1 rfl ?_
  refine tm_callv (rest := []) C hK (fun sz => tk_X3_returns h) (cwV 0 C.t (lw_V q2862 q2864 qs108 q130 q2865) rfl rfl rfl ⟨rfl, dmX3_returns⟩ ⟨Nat.le_of_ble_eq_true rfl, Nat.le_of_ble_eq_true rfl⟩) rfl rfl (Nat.le_of_ble_eq_true rfl) dX3_owlsThen_11 (fun M11 h => ?_)
  refine gx_iload_n C dX3_owlsThen_14 rfl 0 rfl ?_
  exact tm_iret C hK h dX3_owlsThen_15
/-! owlsIn(I)I -/
abbrev rmX3_owlsIn : Room := { frames := 12, cells := 0, slots := 0, locals := 271 }
theorem dmX3_owlsIn : yX3_owlsIn.cls ≠ "java/lang/invoke/MethodHandle" ∧ yX3_owlsIn.cls ≠ "java/lang/invoke/VarHandle" ∧ (parseMethodDescriptor yX3_owlsIn.desc).map (fun d => d.parameters.length) = some 1 := by decide +kernel
def tj_X3_owlsIn_32 (M : MS) (s0 : Int32) (Q : Int32 → MS → Prop) : Prop :=
  Q s0 M
theorem tb_X3_owlsIn_32 {l : Launch} {p : Program} {e : Env} {s : State} {m : MethodId} {args : Array Value} {below : List Frame} {meth : Method} {c : Code} {D : va_G} {g : Nat → Nat} {cI cJ : ClassId} (C : gx_C p s m args meth c cX3_owlsIn 2 (some .int) RX3) (hK : va_K D gcl [(cI, .int), (cJ, .long)] s) {M : MS} {s0 : Int32} {Q : Int32 → MS → Prop} (h : tj_X3_owlsIn_32 M s0 Q)  : gx_W p l e (headSpec (ws_ yX3_owlsIn cX3_owlsIn 2 (some .int)) rmX3_owlsIn).room s m args below meth c 2 (tm_I D g cI cJ s M) 0 0 (MQ below (va_Qi Q (tm_B D g cI cJ s.heap.size) (tm_A g s.heap.size)) args s 0 0 (tm_A g s.heap.size)) 32 [] [.int s0] := by
  unfold tj_X3_owlsIn_32 at h
  exact tm_iret C hK h dX3_owlsIn_32
def tw_X3_owlsIn (M : MS) (a1 : Int32) (Q : Int32 → MS → Prop) : Prop :=
  pw_X3_areYears a1 (fun r2 => (∀ M13 : MS, M13 = ms_s M 0 (if r2 = 0 then 1 else 0) → (((M13.1 0) ≤ 0 → tw_X3_owlsThen M13 a1 (fun r29 M29 => tj_X3_owlsIn_32 M29 r29 Q)) ∧ (¬ (M13.1 0) ≤ 0 → tj_X3_owlsIn_32 M13 0 Q))))
theorem tk_X3_owlsIn {l : Launch} {D : va_G} {g : Nat → Nat} {cI cJ : ClassId} {sz : Nat} {M : MS} {a1 : Int32} {Q : Int32 → MS → Prop} (h : tw_X3_owlsIn M a1 Q) : tm_Met l yX3_owlsIn cX3_owlsIn 2 (some .int) rmX3_owlsIn [.int a1] D g cI cJ sz M (va_Qi Q (tm_B D g cI cJ sz) (tm_A g sz)) := by
  refine tm_entry (by decide) (Nat.le_of_ble_eq_true rfl) (fun p e s m args below meth c hsz C hK => ?_)
  subst hsz
  unfold tw_X3_owlsIn at h
  show gx_W p l e (headSpec (ws_ yX3_owlsIn cX3_owlsIn 2 (some .int)) rmX3_owlsIn).room s m args below meth c 2 (tm_I D g cI cJ s M) 0 0 (MQ below (va_Qi Q (tm_B D g cI cJ s.heap.size) (tm_A g s.heap.size)) args s 0 0 (tm_A g s.heap.size)) 0 [(0, .ref (g 0)), (1, .int a1)] []
  refine gx_aload_n C dX3_owlsIn_0 rfl 0 rfl ?_
  refine gx_iload_n C dX3_owlsIn_1 rfl 1 rfl ?_
  refine gx_calls_i (rest := [.ref (g 0)]) C (pk_X3_areYears h) (va_cwS 1 C.t (lw_S q2478 q2479 q130 q2480) rfl rfl rfl dmX3_areYears ⟨Nat.le_of_ble_eq_true rfl, Nat.le_of_ble_eq_true rfl⟩) rfl rfl (Nat.le_of_ble_eq_true rfl) ⟨Nat.zero_le _, Nat.zero_le _⟩ dX3_owlsIn_2 (fun r2 h => ?_)
  refine gx_phii (t := (if r2 = 0 then 1 else 0)) (pc2 := 13) (lv2 := [(0, .ref (g 0)), (1, .int a1)]) (rest2 := [.ref (g 0)]) (fun key => ?_) ?_
  · refine gx_if_eq (tgt := 12) C dX3_owlsIn_5 (by decide) (fun z1 => ?_) (fun z1 => ?_)
    · refine gx_iconst (v := 1) C dX3_owlsIn_12 (by decide) ?_
      exact gx_casti (if_pos z1) key
    · refine gx_iconst (v := 0) C dX3_owlsIn_8 (by decide) ?_
      refine gx_goto (tgt := 13) C dX3_owlsIn_9 (by decide) ?_
      exact gx_casti (if_neg z1) key
  refine tm_put0 C hK q2300 dX3_owlsIn_13 (fun M13 e_M13 => ?_)
  replace h := h M13 e_M13
  refine gx_aload_n C dX3_owlsIn_16 rfl 0 rfl ?_
  refine tm_get C hK 0 (by decide) q2300 rfl rfl dX3_owlsIn_17 ?_
  refine gx_if_le (tgt := 27) C dX3_owlsIn_20 (by decide) (fun z => ?_) (fun z => ?_)
  · replace h := h.1 z
    refine gx_aload_n C dX3_owlsIn_27 rfl 0 rfl ?_
    refine gx_iload_n C dX3_owlsIn_28 rfl 1 rfl ?_
    refine tm_calli (rest := []) C hK (fun sz => tk_X3_owlsThen h) (cwV 1 C.t (lw_V q2854 q2856 qs106 q130 q2857) rfl rfl rfl ⟨rfl, dmX3_owlsThen⟩ ⟨Nat.le_of_ble_eq_true rfl, Nat.le_of_ble_eq_true rfl⟩) rfl rfl (Nat.le_of_ble_eq_true rfl) dX3_owlsIn_29 (fun r29 M29 h => ?_)
    refine gx_sub [] rfl ?_
    exact tb_X3_owlsIn_32 C hK h
  · replace h := h.2 z
    refine gx_iconst (v := 0) C dX3_owlsIn_23 (by decide) ?_
    refine gx_goto (tgt := 32) C dX3_owlsIn_24 (by decide) ?_
    refine gx_sub [] rfl ?_
    exact tb_X3_owlsIn_32 C hK h
/-! owlsBehindRoad(IZI)I -/
abbrev rmX3_owlsBehindRoad : Room := { frames := 11, cells := 0, slots := 0, locals := 249 }
theorem dmX3_owlsBehindRoad : yX3_owlsBehindRoad.cls ≠ "java/lang/invoke/MethodHandle" ∧ yX3_owlsBehindRoad.cls ≠ "java/lang/invoke/VarHandle" ∧ (parseMethodDescriptor yX3_owlsBehindRoad.desc).map (fun d => d.parameters.length) = some 3 := by decide +kernel
def tw_X3_owlsBehindRoad (M : MS) (a1 : Int32) (a2 : Int32) (a3 : Int32) (Q : Int32 → MS → Prop) : Prop :=
  tw_X3_keeps M (fun M1 => tw_X3_buildsRoad M1 a1 a2 (fun r7 M7 => tw_X3_years M7 a3 (fun r13 M13 => tw_X3_returns M13 (fun M19 => Q r13 M19))))
theorem tk_X3_owlsBehindRoad {l : Launch} {D : va_G} {g : Nat → Nat} {cI cJ : ClassId} {sz : Nat} {M : MS} {a1 : Int32} {a2 : Int32} {a3 : Int32} {Q : Int32 → MS → Prop} (h : tw_X3_owlsBehindRoad M a1 a2 a3 Q) : tm_Met l yX3_owlsBehindRoad cX3_owlsBehindRoad 5 (some .int) rmX3_owlsBehindRoad [.int a1, .int a2, .int a3] D g cI cJ sz M (va_Qi Q (tm_B D g cI cJ sz) (tm_A g sz)) := by
  refine tm_entry (by decide) (Nat.le_of_ble_eq_true rfl) (fun p e s m args below meth c hsz C hK => ?_)
  subst hsz
  unfold tw_X3_owlsBehindRoad at h
  show gx_W p l e (headSpec (ws_ yX3_owlsBehindRoad cX3_owlsBehindRoad 5 (some .int)) rmX3_owlsBehindRoad).room s m args below meth c 5 (tm_I D g cI cJ s M) 0 0 (MQ below (va_Qi Q (tm_B D g cI cJ s.heap.size) (tm_A g s.heap.size)) args s 0 0 (tm_A g s.heap.size)) 0 [(0, .ref (g 0)), (1, .int a1), (2, .int a2), (3, .int a3)] []
  refine gx_aload_n C dX3_owlsBehindRoad_0 rfl 0 rfl ?_
  refine tm_callv (rest := []) C hK (fun sz => tk_X3_keeps h) (cwV 0 C.t (lw_V q2858 q2860 qs107 q130 q2861) rfl rfl rfl ⟨rfl, dmX3_keeps⟩ ⟨Nat.le_of_ble_eq_true rfl, Nat.le_of_ble_eq_true rfl⟩) rfl rfl (Nat.le_of_ble_eq_true rfl) dX3_owlsBehindRoad_1 (fun M1 h => ?_)
  refine gx_aload_n C dX3_owlsBehindRoad_4 rfl 0 rfl ?_
  refine gx_iload_n C dX3_owlsBehindRoad_5 rfl 1 rfl ?_
  refine gx_iload_n C dX3_owlsBehindRoad_6 rfl 2 rfl ?_
  refine tm_calli (rest := []) C hK (fun sz => tk_X3_buildsRoad h) (cwV 2 C.t (lw_V q2386 q2388 qs49 q130 q2389) rfl rfl rfl ⟨rfl, dmX3_buildsRoad⟩ ⟨Nat.le_of_ble_eq_true rfl, Nat.le_of_ble_eq_true rfl⟩) rfl rfl (Nat.le_of_ble_eq_true rfl) dX3_owlsBehindRoad_7 (fun r7 M7 h => ?_)
  refine gx_pop C dX3_owlsBehindRoad_10 rfl ?_
  refine gx_aload_n C dX3_owlsBehindRoad_11 rfl 0 rfl ?_
  refine gx_iload_n C dX3_owlsBehindRoad_12 rfl 3 rfl ?_
  refine tm_calli (rest := []) C hK (fun sz => tk_X3_years h) (cwV 1 C.t (lw_V q2481 q2483 qs64 q130 q2484) rfl rfl rfl ⟨rfl, dmX3_years⟩ ⟨Nat.le_of_ble_eq_true rfl, Nat.le_of_ble_eq_true rfl⟩) rfl rfl (Nat.le_of_ble_eq_true rfl) dX3_owlsBehindRoad_13 (fun r13 M13 h => ?_)
  refine gx_istore (lv' := [(4, .int r13), (0, .ref (g 0)), (1, .int a1), (2, .int a2), (3, .int a3)]) C dX3_owlsBehindRoad_16 (by decide) rfl ?_
  refine gx_aload_n C dX3_owlsBehindRoad_18 rfl 1 rfl ?_
  refine tm_callv (rest := []) C hK (fun sz => tk_X3_returns h) (cwV 0 C.t (lw_V q2862 q2864 qs108 q130 q2865) rfl rfl rfl ⟨rfl, dmX3_returns⟩ ⟨Nat.le_of_ble_eq_true rfl, Nat.le_of_ble_eq_true rfl⟩) rfl rfl (Nat.le_of_ble_eq_true rfl) dX3_owlsBehindRoad_19 (fun M19 h => ?_)
  refine gx_iload C dX3_owlsBehindRoad_22 0 rfl ?_
  exact tm_iret C hK h dX3_owlsBehindRoad_24
/-! owlsWithRoad(IZI)I -/
abbrev rmX3_owlsWithRoad : Room := { frames := 12, cells := 0, slots := 0, locals := 273 }
theorem dmX3_owlsWithRoad : yX3_owlsWithRoad.cls ≠ "java/lang/invoke/MethodHandle" ∧ yX3_owlsWithRoad.cls ≠ "java/lang/invoke/VarHandle" ∧ (parseMethodDescriptor yX3_owlsWithRoad.desc).map (fun d => d.parameters.length) = some 3 := by decide +kernel
def tj_X3_owlsWithRoad_41 (M : MS) (s0 : Int32) (Q : Int32 → MS → Prop) : Prop :=
  Q s0 M
theorem tb_X3_owlsWithRoad_41 {l : Launch} {p : Program} {e : Env} {s : State} {m : MethodId} {args : Array Value} {below : List Frame} {meth : Method} {c : Code} {D : va_G} {g : Nat → Nat} {cI cJ : ClassId} (C : gx_C p s m args meth c cX3_owlsWithRoad 4 (some .int) RX3) (hK : va_K D gcl [(cI, .int), (cJ, .long)] s) {M : MS} {s0 : Int32} {Q : Int32 → MS → Prop} (h : tj_X3_owlsWithRoad_41 M s0 Q)  : gx_W p l e (headSpec (ws_ yX3_owlsWithRoad cX3_owlsWithRoad 4 (some .int)) rmX3_owlsWithRoad).room s m args below meth c 4 (tm_I D g cI cJ s M) 0 0 (MQ below (va_Qi Q (tm_B D g cI cJ s.heap.size) (tm_A g s.heap.size)) args s 0 0 (tm_A g s.heap.size)) 41 [] [.int s0] := by
  unfold tj_X3_owlsWithRoad_41 at h
  exact tm_iret C hK h dX3_owlsWithRoad_41
def tj_X3_owlsWithRoad_20 (M : MS) (a1 : Int32) (a2 : Int32) (a3 : Int32) (s1 : Int32) (Q : Int32 → MS → Prop) : Prop :=
  (∀ M20 : MS, M20 = ms_s M 0 s1 → (((M20.1 0) ≤ 0 → tw_X3_owlsBehindRoad M20 a1 a2 a3 (fun r38 M38 => tj_X3_owlsWithRoad_41 M38 r38 Q)) ∧ (¬ (M20.1 0) ≤ 0 → tj_X3_owlsWithRoad_41 M20 0 Q)))
theorem tb_X3_owlsWithRoad_20 {l : Launch} {p : Program} {e : Env} {s : State} {m : MethodId} {args : Array Value} {below : List Frame} {meth : Method} {c : Code} {D : va_G} {g : Nat → Nat} {cI cJ : ClassId} (C : gx_C p s m args meth c cX3_owlsWithRoad 4 (some .int) RX3) (hK : va_K D gcl [(cI, .int), (cJ, .long)] s) {M : MS} {a1 : Int32} {a2 : Int32} {a3 : Int32} {s1 : Int32} {Q : Int32 → MS → Prop} (h : tj_X3_owlsWithRoad_20 M a1 a2 a3 s1 Q)  : gx_W p l e (headSpec (ws_ yX3_owlsWithRoad cX3_owlsWithRoad 4 (some .int)) rmX3_owlsWithRoad).room s m args below meth c 4 (tm_I D g cI cJ s M) 0 0 (MQ below (va_Qi Q (tm_B D g cI cJ s.heap.size) (tm_A g s.heap.size)) args s 0 0 (tm_A g s.heap.size)) 20 [(0, .ref (g 0)), (1, .int a1), (2, .int a2), (3, .int a3)] [.int s1, .ref (g 0)] := by
  unfold tj_X3_owlsWithRoad_20 at h
  refine tm_put0 C hK q2300 dX3_owlsWithRoad_20 (fun M20 e_M20 => ?_)
  replace h := h M20 e_M20
  refine gx_aload_n C dX3_owlsWithRoad_23 rfl 0 rfl ?_
  refine tm_get C hK 0 (by decide) q2300 rfl rfl dX3_owlsWithRoad_24 ?_
  refine gx_if_le (tgt := 34) C dX3_owlsWithRoad_27 (by decide) (fun z => ?_) (fun z => ?_)
  · replace h := h.1 z
    refine gx_aload_n C dX3_owlsWithRoad_34 rfl 0 rfl ?_
    refine gx_iload_n C dX3_owlsWithRoad_35 rfl 1 rfl ?_
    refine gx_iload_n C dX3_owlsWithRoad_36 rfl 2 rfl ?_
    refine gx_iload_n C dX3_owlsWithRoad_37 rfl 3 rfl ?_
    refine tm_calli (rest := []) C hK (fun sz => tk_X3_owlsBehindRoad h) (cwV 3 C.t (lw_V q2870 q2872 qs109 q130 q2873) rfl rfl rfl ⟨rfl, dmX3_owlsBehindRoad⟩ ⟨Nat.le_of_ble_eq_true rfl, Nat.le_of_ble_eq_true rfl⟩) rfl rfl (Nat.le_of_ble_eq_true rfl) dX3_owlsWithRoad_38 (fun r38 M38 h => ?_)
    refine gx_sub [] rfl ?_
    exact tb_X3_owlsWithRoad_41 C hK h
  · replace h := h.2 z
    refine gx_iconst (v := 0) C dX3_owlsWithRoad_30 (by decide) ?_
    refine gx_goto (tgt := 41) C dX3_owlsWithRoad_31 (by decide) ?_
    refine gx_sub [] rfl ?_
    exact tb_X3_owlsWithRoad_41 C hK h
def tj_X3_owlsWithRoad_19 (M : MS) (a1 : Int32) (a2 : Int32) (a3 : Int32) (Q : Int32 → MS → Prop) : Prop :=
  tj_X3_owlsWithRoad_20 M a1 a2 a3 1 Q
theorem tb_X3_owlsWithRoad_19 {l : Launch} {p : Program} {e : Env} {s : State} {m : MethodId} {args : Array Value} {below : List Frame} {meth : Method} {c : Code} {D : va_G} {g : Nat → Nat} {cI cJ : ClassId} (C : gx_C p s m args meth c cX3_owlsWithRoad 4 (some .int) RX3) (hK : va_K D gcl [(cI, .int), (cJ, .long)] s) {M : MS} {a1 : Int32} {a2 : Int32} {a3 : Int32} {Q : Int32 → MS → Prop} (h : tj_X3_owlsWithRoad_19 M a1 a2 a3 Q)  : gx_W p l e (headSpec (ws_ yX3_owlsWithRoad cX3_owlsWithRoad 4 (some .int)) rmX3_owlsWithRoad).room s m args below meth c 4 (tm_I D g cI cJ s M) 0 0 (MQ below (va_Qi Q (tm_B D g cI cJ s.heap.size) (tm_A g s.heap.size)) args s 0 0 (tm_A g s.heap.size)) 19 [(0, .ref (g 0)), (1, .int a1), (2, .int a2), (3, .int a3)] [.ref (g 0)] := by
  unfold tj_X3_owlsWithRoad_19 at h
  refine gx_iconst (v := 1) C dX3_owlsWithRoad_19 (by decide) ?_
  exact tb_X3_owlsWithRoad_20 C hK h
def tw_X3_owlsWithRoad (M : MS) (a1 : Int32) (a2 : Int32) (a3 : Int32) (Q : Int32 → MS → Prop) : Prop :=
  pw_X3_isLine a1 (fun r2 => ((r2 = 0 → tj_X3_owlsWithRoad_19 M a1 a2 a3 Q) ∧ (¬ (r2 = 0) → pw_X3_areYears a3 (fun r9 => ((r9 = 0 → tj_X3_owlsWithRoad_19 M a1 a2 a3 Q) ∧ (¬ (r9 = 0) → tj_X3_owlsWithRoad_20 M a1 a2 a3 0 Q))))))
theorem tk_X3_owlsWithRoad {l : Launch} {D : va_G} {g : Nat → Nat} {cI cJ : ClassId} {sz : Nat} {M : MS} {a1 : Int32} {a2 : Int32} {a3 : Int32} {Q : Int32 → MS → Prop} (h : tw_X3_owlsWithRoad M a1 a2 a3 Q) : tm_Met l yX3_owlsWithRoad cX3_owlsWithRoad 4 (some .int) rmX3_owlsWithRoad [.int a1, .int a2, .int a3] D g cI cJ sz M (va_Qi Q (tm_B D g cI cJ sz) (tm_A g sz)) := by
  refine tm_entry (by decide) (Nat.le_of_ble_eq_true rfl) (fun p e s m args below meth c hsz C hK => ?_)
  subst hsz
  unfold tw_X3_owlsWithRoad at h
  show gx_W p l e (headSpec (ws_ yX3_owlsWithRoad cX3_owlsWithRoad 4 (some .int)) rmX3_owlsWithRoad).room s m args below meth c 4 (tm_I D g cI cJ s M) 0 0 (MQ below (va_Qi Q (tm_B D g cI cJ s.heap.size) (tm_A g s.heap.size)) args s 0 0 (tm_A g s.heap.size)) 0 [(0, .ref (g 0)), (1, .int a1), (2, .int a2), (3, .int a3)] []
  refine gx_aload_n C dX3_owlsWithRoad_0 rfl 0 rfl ?_
  refine gx_iload_n C dX3_owlsWithRoad_1 rfl 1 rfl ?_
  refine gx_calls_i (rest := [.ref (g 0)]) C (pk_X3_isLine h) (va_cwS 1 C.t (lw_S q2383 q2384 q130 q2385) rfl rfl rfl dmX3_isLine ⟨Nat.le_of_ble_eq_true rfl, Nat.le_of_ble_eq_true rfl⟩) rfl rfl (Nat.le_of_ble_eq_true rfl) ⟨Nat.zero_le _, Nat.zero_le _⟩ dX3_owlsWithRoad_2 (fun r2 h => ?_)
  refine gx_if_eq (tgt := 19) C dX3_owlsWithRoad_5 (by decide) (fun z => ?_) (fun z => ?_)
  · replace h := h.1 z
    exact tb_X3_owlsWithRoad_19 C hK h
  · replace h := h.2 z
    refine gx_iload_n C dX3_owlsWithRoad_8 rfl 3 rfl ?_
    refine gx_calls_i (rest := [.ref (g 0)]) C (pk_X3_areYears h) (va_cwS 1 C.t (lw_S q2478 q2479 q130 q2480) rfl rfl rfl dmX3_areYears ⟨Nat.le_of_ble_eq_true rfl, Nat.le_of_ble_eq_true rfl⟩) rfl rfl (Nat.le_of_ble_eq_true rfl) ⟨Nat.zero_le _, Nat.zero_le _⟩ dX3_owlsWithRoad_9 (fun r9 h => ?_)
    refine gx_if_eq (tgt := 19) C dX3_owlsWithRoad_12 (by decide) (fun z => ?_) (fun z => ?_)
    · replace h := h.1 z
      exact tb_X3_owlsWithRoad_19 C hK h
    · replace h := h.2 z
      refine gx_iconst (v := 0) C dX3_owlsWithRoad_15 (by decide) ?_
      refine gx_goto (tgt := 20) C dX3_owlsWithRoad_16 (by decide) ?_
      exact tb_X3_owlsWithRoad_20 C hK h
/-! yearsUntilGone()I -/
abbrev rmX3_yearsUntilGone : Room := { frames := 10, cells := 0, slots := 0, locals := 227 }
theorem dmX3_yearsUntilGone : yX3_yearsUntilGone.cls ≠ "java/lang/invoke/MethodHandle" ∧ yX3_yearsUntilGone.cls ≠ "java/lang/invoke/VarHandle" ∧ (parseMethodDescriptor yX3_yearsUntilGone.desc).map (fun d => d.parameters.length) = some 0 := by decide +kernel
def tj_X3_yearsUntilGone_31 (M : MS) (a1 : Int32) (Q : Int32 → MS → Prop) : Prop :=
  (vp_in 3 754 ∧ tw_X3_returns M (fun M47 => tw_X3_tells M47 (if ((if (ms_r M 0 3) = 0 then 1 else 0) : Int32) = 0 then (-1) else a1) (fun r60 M60 => Q r60 M60)))
theorem tb_X3_yearsUntilGone_31 {l : Launch} {p : Program} {e : Env} {s : State} {m : MethodId} {args : Array Value} {below : List Frame} {meth : Method} {c : Code} {D : va_G} {g : Nat → Nat} {cI cJ : ClassId} (C : gx_C p s m args meth c cX3_yearsUntilGone 3 (some .int) RX3) (hK : va_K D gcl [(cI, .int), (cJ, .long)] s) {M : MS} {a1 : Int32} {Q : Int32 → MS → Prop} (h : tj_X3_yearsUntilGone_31 M a1 Q)  : gx_W p l e (headSpec (ws_ yX3_yearsUntilGone cX3_yearsUntilGone 3 (some .int)) rmX3_yearsUntilGone).room s m args below meth c 3 (tm_I D g cI cJ s M) 0 0 (MQ below (va_Qi Q (tm_B D g cI cJ s.heap.size) (tm_A g s.heap.size)) args s 0 0 (tm_A g s.heap.size)) 31 [(0, .ref (g 0)), (1, .int a1)] [] := by
  unfold tj_X3_yearsUntilGone_31 at h
  refine gx_aload_n C dX3_yearsUntilGone_31 rfl 0 rfl ?_
  refine tm_get C hK 1 (by decide) q2301 rfl rfl dX3_yearsUntilGone_32 ?_
  refine gx_iconst (v := 3) C dX3_yearsUntilGone_35 (by decide) ?_
  obtain ⟨g36, h⟩ := h
  refine tm_ald0 C hK g36 dX3_yearsUntilGone_36 ?_
  refine gx_phii (t := (if (ms_r M 0 3) = 0 then 1 else 0)) (pc2 := 45) (lv2 := [(0, .ref (g 0)), (1, .int a1)]) (rest2 := []) (fun key => ?_) ?_
  · refine gx_if_ne (tgt := 44) C dX3_yearsUntilGone_37 (by decide) (fun z1 => ?_) (fun z1 => ?_)
    · refine gx_iconst (v := 0) C dX3_yearsUntilGone_44 (by decide) ?_
      exact gx_casti (if_neg z1) key
    · refine gx_iconst (v := 1) C dX3_yearsUntilGone_40 (by decide) ?_
      refine gx_goto (tgt := 45) C dX3_yearsUntilGone_41 (by decide) ?_
      exact gx_casti (if_pos z1) key
  refine gx_istore_n (lv' := [(2, .int ((if (ms_r M 0 3) = 0 then 1 else 0))), (0, .ref (g 0)), (1, .int a1)]) C dX3_yearsUntilGone_45 rfl (by decide) rfl ?_
  refine gx_aload_n C dX3_yearsUntilGone_46 rfl 1 rfl ?_
  refine tm_callv (rest := []) C hK (fun sz => tk_X3_returns h) (cwV 0 C.t (lw_V q2862 q2864 qs108 q130 q2865) rfl rfl rfl ⟨rfl, dmX3_returns⟩ ⟨Nat.le_of_ble_eq_true rfl, Nat.le_of_ble_eq_true rfl⟩) rfl rfl (Nat.le_of_ble_eq_true rfl) dX3_yearsUntilGone_47 (fun M47 h => ?_)
  refine gx_aload_n C dX3_yearsUntilGone_50 rfl 1 rfl ?_
  refine gx_iload_n C dX3_yearsUntilGone_51 rfl 0 rfl ?_
  refine gx_phii (t := (if ((if (ms_r M 0 3) = 0 then 1 else 0) : Int32) = 0 then (-1) else a1)) (pc2 := 60) (lv2 := [(2, .int ((if (ms_r M 0 3) = 0 then 1 else 0))), (0, .ref (g 0)), (1, .int a1)]) (rest2 := [.ref (g 0)]) (fun key => ?_) ?_
  · refine gx_if_eq (tgt := 59) C dX3_yearsUntilGone_52 (by decide) (fun z1 => ?_) (fun z1 => ?_)
    · refine gx_iconst (v := (-1)) C dX3_yearsUntilGone_59 (by decide) ?_
      exact gx_casti (if_pos z1) key
    · refine gx_iload_n C dX3_yearsUntilGone_55 rfl 2 rfl ?_
      refine gx_goto (tgt := 60) C dX3_yearsUntilGone_56 (by decide) ?_
      exact gx_casti (if_neg z1) key
  refine tm_calli (rest := []) C hK (fun sz => tk_X3_tells h) (cwV 1 C.t (lw_V q2570 q2572 qs82 q130 q2573) rfl rfl rfl ⟨rfl, dmX3_tells⟩ ⟨Nat.le_of_ble_eq_true rfl, Nat.le_of_ble_eq_true rfl⟩) rfl rfl (Nat.le_of_ble_eq_true rfl) dX3_yearsUntilGone_60 (fun r60 M60 h => ?_)
  exact tm_iret C hK h dX3_yearsUntilGone_63
def tj_X3_yearsUntilGone_6 (M : MS) (a1 : Int32) (k6 : MS → Int32 → Prop) (Q : Int32 → MS → Prop) : Prop :=
  (vp_in 3 754 ∧ (((ms_r M 0 3) ≤ 0 → tj_X3_yearsUntilGone_31 M a1 Q) ∧ (¬ (ms_r M 0 3) ≤ 0 → ((40 ≤ a1 → tj_X3_yearsUntilGone_31 M a1 Q) ∧ (¬ (40 ≤ a1) → tw_X3_passesYear M (fun M22 => k6 M22 (a1 + 1)))))))
theorem tb_X3_yearsUntilGone_6 {l : Launch} {p : Program} {e : Env} {s : State} {m : MethodId} {args : Array Value} {below : List Frame} {meth : Method} {c : Code} {D : va_G} {g : Nat → Nat} {cI cJ : ClassId} (C : gx_C p s m args meth c cX3_yearsUntilGone 3 (some .int) RX3) (hK : va_K D gcl [(cI, .int), (cJ, .long)] s) {M : MS} {a1 : Int32} {k6 : MS → Int32 → Prop} {Q : Int32 → MS → Prop} (h : tj_X3_yearsUntilGone_6 M a1 k6 Q) (hk6 : ∀ (M : MS) (a1 : Int32), k6 M a1 → gx_W p l e (headSpec (ws_ yX3_yearsUntilGone cX3_yearsUntilGone 3 (some .int)) rmX3_yearsUntilGone).room s m args below meth c 3 (tm_I D g cI cJ s M) 0 0 (MQ below (va_Qi Q (tm_B D g cI cJ s.heap.size) (tm_A g s.heap.size)) args s 0 0 (tm_A g s.heap.size)) 6 [(0, .ref (g 0)), (1, .int a1)] []) : gx_W p l e (headSpec (ws_ yX3_yearsUntilGone cX3_yearsUntilGone 3 (some .int)) rmX3_yearsUntilGone).room s m args below meth c 3 (tm_I D g cI cJ s M) 0 0 (MQ below (va_Qi Q (tm_B D g cI cJ s.heap.size) (tm_A g s.heap.size)) args s 0 0 (tm_A g s.heap.size)) 6 [(0, .ref (g 0)), (1, .int a1)] [] := by
  unfold tj_X3_yearsUntilGone_6 at h
  refine gx_aload_n C dX3_yearsUntilGone_6 rfl 0 rfl ?_
  refine tm_get C hK 1 (by decide) q2301 rfl rfl dX3_yearsUntilGone_7 ?_
  refine gx_iconst (v := 3) C dX3_yearsUntilGone_10 (by decide) ?_
  obtain ⟨g11, h⟩ := h
  refine tm_ald0 C hK g11 dX3_yearsUntilGone_11 ?_
  refine gx_if_le (tgt := 31) C dX3_yearsUntilGone_12 (by decide) (fun z => ?_) (fun z => ?_)
  · replace h := h.1 z
    exact tb_X3_yearsUntilGone_31 C hK h
  · replace h := h.2 z
    refine gx_iload_n C dX3_yearsUntilGone_15 rfl 1 rfl ?_
    refine gx_bipush (v := 40) C dX3_yearsUntilGone_16 (by decide) ?_
    refine gx_icmp_ge (tgt := 31) C dX3_yearsUntilGone_18 (by decide) (fun z => ?_) (fun z => ?_)
    · replace h := h.1 z
      exact tb_X3_yearsUntilGone_31 C hK h
    · replace h := h.2 z
      refine gx_aload_n C dX3_yearsUntilGone_21 rfl 0 rfl ?_
      refine tm_callv (rest := []) C hK (fun sz => tk_X3_passesYear h) (cwV 0 C.t (lw_V q2485 q2487 qs65 q130 q2488) rfl rfl rfl ⟨rfl, dmX3_passesYear⟩ ⟨Nat.le_of_ble_eq_true rfl, Nat.le_of_ble_eq_true rfl⟩) rfl rfl (Nat.le_of_ble_eq_true rfl) dX3_yearsUntilGone_22 (fun M22 h => ?_)
      refine gx_iinc (v := a1 + 1) (k := 1) (lv' := [(1, .int (a1 + 1)), (0, .ref (g 0))]) C dX3_yearsUntilGone_25 rfl rfl (by decide) rfl ?_
      refine gx_goto (tgt := 6) C dX3_yearsUntilGone_28 (by decide) ?_
      refine gx_sub [1, 0] rfl ?_
      exact hk6 M22 (a1 + 1) h
def tl_X3_yearsUntilGone_6 (Q : Int32 → MS → Prop) : Nat → MS → Int32 → Prop
  | 0, _, _ => False
  | n + 1, M, a1 => tj_X3_yearsUntilGone_6 M a1 (fun M a1 => tl_X3_yearsUntilGone_6 Q n M a1) Q
theorem te_X3_yearsUntilGone_6 {l : Launch} {p : Program} {e : Env} {s : State} {m : MethodId} {args : Array Value} {below : List Frame} {meth : Method} {c : Code} {D : va_G} {g : Nat → Nat} {cI cJ : ClassId} (C : gx_C p s m args meth c cX3_yearsUntilGone 3 (some .int) RX3) (hK : va_K D gcl [(cI, .int), (cJ, .long)] s) {Q : Int32 → MS → Prop}  (n : Nat) : ∀ (M : MS) (a1 : Int32), tl_X3_yearsUntilGone_6 Q n M a1 → gx_W p l e (headSpec (ws_ yX3_yearsUntilGone cX3_yearsUntilGone 3 (some .int)) rmX3_yearsUntilGone).room s m args below meth c 3 (tm_I D g cI cJ s M) 0 0 (MQ below (va_Qi Q (tm_B D g cI cJ s.heap.size) (tm_A g s.heap.size)) args s 0 0 (tm_A g s.heap.size)) 6 [(0, .ref (g 0)), (1, .int a1)] [] := by
  induction n with
  | zero => intro M a1 h; exact False.elim h
  | succ n ih => intro M a1 h; exact tb_X3_yearsUntilGone_6 C hK (show tj_X3_yearsUntilGone_6 M a1 (fun M a1 => tl_X3_yearsUntilGone_6 Q n M a1) Q from h) (fun M a1 h => ih M a1 h)
def tw_X3_yearsUntilGone (M : MS) (Q : Int32 → MS → Prop) : Prop :=
  tw_X3_keeps M (fun M1 => ∃ n : Nat, tl_X3_yearsUntilGone_6 Q n M1 0)
theorem tk_X3_yearsUntilGone {l : Launch} {D : va_G} {g : Nat → Nat} {cI cJ : ClassId} {sz : Nat} {M : MS} {Q : Int32 → MS → Prop} (h : tw_X3_yearsUntilGone M Q) : tm_Met l yX3_yearsUntilGone cX3_yearsUntilGone 3 (some .int) rmX3_yearsUntilGone [] D g cI cJ sz M (va_Qi Q (tm_B D g cI cJ sz) (tm_A g sz)) := by
  refine tm_entry (by decide) (Nat.le_of_ble_eq_true rfl) (fun p e s m args below meth c hsz C hK => ?_)
  subst hsz
  unfold tw_X3_yearsUntilGone at h
  show gx_W p l e (headSpec (ws_ yX3_yearsUntilGone cX3_yearsUntilGone 3 (some .int)) rmX3_yearsUntilGone).room s m args below meth c 3 (tm_I D g cI cJ s M) 0 0 (MQ below (va_Qi Q (tm_B D g cI cJ s.heap.size) (tm_A g s.heap.size)) args s 0 0 (tm_A g s.heap.size)) 0 [(0, .ref (g 0))] []
  refine gx_aload_n C dX3_yearsUntilGone_0 rfl 0 rfl ?_
  refine tm_callv (rest := []) C hK (fun sz => tk_X3_keeps h) (cwV 0 C.t (lw_V q2858 q2860 qs107 q130 q2861) rfl rfl rfl ⟨rfl, dmX3_keeps⟩ ⟨Nat.le_of_ble_eq_true rfl, Nat.le_of_ble_eq_true rfl⟩) rfl rfl (Nat.le_of_ble_eq_true rfl) dX3_yearsUntilGone_1 (fun M1 h => ?_)
  refine gx_iconst (v := 0) C dX3_yearsUntilGone_4 (by decide) ?_
  refine gx_istore_n (lv' := [(1, .int 0), (0, .ref (g 0))]) C dX3_yearsUntilGone_5 rfl (by decide) rfl ?_
  refine gx_sub [1, 0] rfl ?_
  obtain ⟨n, h⟩ := h
  exact te_X3_yearsUntilGone_6 C hK n M1 0 h
/-! bestRow()I -/
abbrev rmX3_bestRow : Room := { frames := 12, cells := 0, slots := 0, locals := 273 }
theorem dmX3_bestRow : yX3_bestRow.cls ≠ "java/lang/invoke/MethodHandle" ∧ yX3_bestRow.cls ≠ "java/lang/invoke/VarHandle" ∧ (parseMethodDescriptor yX3_bestRow.desc).map (fun d => d.parameters.length) = some 0 := by decide +kernel
def tj_X3_bestRow_6 (M : MS) (a1 : Int32) (a2 : Int32) (a3 : Int32) (k6 : MS → Int32 → Int32 → Int32 → Prop) (Q : Int32 → MS → Prop) : Prop :=
  ((8 ≤ a3 → tw_X3_tells M a1 (fun r54 M54 => Q r54 M54)) ∧ (¬ (8 ≤ a3) → tw_X3_owlsBehindRoad M a3 1 4 (fun r16 M16 => k6 M16 ((if r16 ≤ a2 then a1 else a3)) ((if r16 ≤ a2 then a2 else r16)) (a3 + 1))))
theorem tb_X3_bestRow_6 {l : Launch} {p : Program} {e : Env} {s : State} {m : MethodId} {args : Array Value} {below : List Frame} {meth : Method} {c : Code} {D : va_G} {g : Nat → Nat} {cI cJ : ClassId} (C : gx_C p s m args meth c cX3_bestRow 5 (some .int) RX3) (hK : va_K D gcl [(cI, .int), (cJ, .long)] s) {M : MS} {a1 : Int32} {a2 : Int32} {a3 : Int32} {k6 : MS → Int32 → Int32 → Int32 → Prop} {Q : Int32 → MS → Prop} (h : tj_X3_bestRow_6 M a1 a2 a3 k6 Q) (hk6 : ∀ (M : MS) (a1 : Int32) (a2 : Int32) (a3 : Int32), k6 M a1 a2 a3 → gx_W p l e (headSpec (ws_ yX3_bestRow cX3_bestRow 5 (some .int)) rmX3_bestRow).room s m args below meth c 5 (tm_I D g cI cJ s M) 0 0 (MQ below (va_Qi Q (tm_B D g cI cJ s.heap.size) (tm_A g s.heap.size)) args s 0 0 (tm_A g s.heap.size)) 6 [(0, .ref (g 0)), (1, .int a1), (2, .int a2), (3, .int a3)] []) : gx_W p l e (headSpec (ws_ yX3_bestRow cX3_bestRow 5 (some .int)) rmX3_bestRow).room s m args below meth c 5 (tm_I D g cI cJ s M) 0 0 (MQ below (va_Qi Q (tm_B D g cI cJ s.heap.size) (tm_A g s.heap.size)) args s 0 0 (tm_A g s.heap.size)) 6 [(0, .ref (g 0)), (1, .int a1), (2, .int a2), (3, .int a3)] [] := by
  unfold tj_X3_bestRow_6 at h
  refine gx_iload_n C dX3_bestRow_6 rfl 3 rfl ?_
  refine gx_bipush (v := 8) C dX3_bestRow_7 (by decide) ?_
  refine gx_icmp_ge (tgt := 52) C dX3_bestRow_9 (by decide) (fun z => ?_) (fun z => ?_)
  · replace h := h.1 z
    refine gx_aload_n C dX3_bestRow_52 rfl 0 rfl ?_
    refine gx_iload_n C dX3_bestRow_53 rfl 1 rfl ?_
    refine tm_calli (rest := []) C hK (fun sz => tk_X3_tells h) (cwV 1 C.t (lw_V q2570 q2572 qs82 q130 q2573) rfl rfl rfl ⟨rfl, dmX3_tells⟩ ⟨Nat.le_of_ble_eq_true rfl, Nat.le_of_ble_eq_true rfl⟩) rfl rfl (Nat.le_of_ble_eq_true rfl) dX3_bestRow_54 (fun r54 M54 h => ?_)
    exact tm_iret C hK h dX3_bestRow_57
  · replace h := h.2 z
    refine gx_aload_n C dX3_bestRow_12 rfl 0 rfl ?_
    refine gx_iload_n C dX3_bestRow_13 rfl 3 rfl ?_
    refine gx_iconst (v := 1) C dX3_bestRow_14 (by decide) ?_
    refine gx_iconst (v := 4) C dX3_bestRow_15 (by decide) ?_
    refine tm_calli (rest := []) C hK (fun sz => tk_X3_owlsBehindRoad h) (cwV 3 C.t (lw_V q2870 q2872 qs109 q130 q2873) rfl rfl rfl ⟨rfl, dmX3_owlsBehindRoad⟩ ⟨Nat.le_of_ble_eq_true rfl, Nat.le_of_ble_eq_true rfl⟩) rfl rfl (Nat.le_of_ble_eq_true rfl) dX3_bestRow_16 (fun r16 M16 h => ?_)
    refine gx_istore (lv' := [(4, .int r16), (0, .ref (g 0)), (1, .int a1), (2, .int a2), (3, .int a3)]) C dX3_bestRow_19 (by decide) rfl ?_
    refine gx_iload C dX3_bestRow_21 0 rfl ?_
    refine gx_iload_n C dX3_bestRow_23 rfl 3 rfl ?_
    refine gx_phii (t := (if r16 ≤ a2 then a1 else a3)) (pc2 := 32) (lv2 := [(4, .int r16), (0, .ref (g 0)), (1, .int a1), (2, .int a2), (3, .int a3)]) (rest2 := []) (fun key => ?_) ?_
    · refine gx_icmp_le (tgt := 31) C dX3_bestRow_24 (by decide) (fun z1 => ?_) (fun z1 => ?_)
      · refine gx_iload_n C dX3_bestRow_31 rfl 2 rfl ?_
        exact gx_casti (if_pos z1) key
      · refine gx_iload_n C dX3_bestRow_27 rfl 4 rfl ?_
        refine gx_goto (tgt := 32) C dX3_bestRow_28 (by decide) ?_
        exact gx_casti (if_neg z1) key
    refine gx_istore_n (lv' := [(1, .int ((if r16 ≤ a2 then a1 else a3))), (4, .int r16), (0, .ref (g 0)), (2, .int a2), (3, .int a3)]) C dX3_bestRow_32 rfl (by decide) rfl ?_
    refine gx_iload C dX3_bestRow_33 1 rfl ?_
    refine gx_iload_n C dX3_bestRow_35 rfl 3 rfl ?_
    refine gx_phii (t := (if r16 ≤ a2 then a2 else r16)) (pc2 := 45) (lv2 := [(1, .int ((if r16 ≤ a2 then a1 else a3))), (4, .int r16), (0, .ref (g 0)), (2, .int a2), (3, .int a3)]) (rest2 := []) (fun key => ?_) ?_
    · refine gx_icmp_le (tgt := 44) C dX3_bestRow_36 (by decide) (fun z1 => ?_) (fun z1 => ?_)
      · refine gx_iload_n C dX3_bestRow_44 rfl 3 rfl ?_
        exact gx_casti (if_pos z1) key
      · refine gx_iload C dX3_bestRow_39 1 rfl ?_
        refine gx_goto (tgt := 45) C dX3_bestRow_41 (by decide) ?_
        exact gx_casti (if_neg z1) key
    refine gx_istore_n (lv' := [(2, .int ((if r16 ≤ a2 then a2 else r16))), (1, .int ((if r16 ≤ a2 then a1 else a3))), (4, .int r16), (0, .ref (g 0)), (3, .int a3)]) C dX3_bestRow_45 rfl (by decide) rfl ?_
    refine gx_iinc (v := a3 + 1) (k := 4) (lv' := [(3, .int (a3 + 1)), (2, .int ((if r16 ≤ a2 then a2 else r16))), (1, .int ((if r16 ≤ a2 then a1 else a3))), (4, .int r16), (0, .ref (g 0))]) C dX3_bestRow_46 rfl rfl (by decide) rfl ?_
    refine gx_goto (tgt := 6) C dX3_bestRow_49 (by decide) ?_
    refine gx_sub [4, 2, 1, 0] rfl ?_
    exact hk6 M16 ((if r16 ≤ a2 then a1 else a3)) ((if r16 ≤ a2 then a2 else r16)) (a3 + 1) h
def tl_X3_bestRow_6 (Q : Int32 → MS → Prop) : Nat → MS → Int32 → Int32 → Int32 → Prop
  | 0, _, _, _, _ => False
  | n + 1, M, a1, a2, a3 => tj_X3_bestRow_6 M a1 a2 a3 (fun M a1 a2 a3 => tl_X3_bestRow_6 Q n M a1 a2 a3) Q
theorem te_X3_bestRow_6 {l : Launch} {p : Program} {e : Env} {s : State} {m : MethodId} {args : Array Value} {below : List Frame} {meth : Method} {c : Code} {D : va_G} {g : Nat → Nat} {cI cJ : ClassId} (C : gx_C p s m args meth c cX3_bestRow 5 (some .int) RX3) (hK : va_K D gcl [(cI, .int), (cJ, .long)] s) {Q : Int32 → MS → Prop}  (n : Nat) : ∀ (M : MS) (a1 : Int32) (a2 : Int32) (a3 : Int32), tl_X3_bestRow_6 Q n M a1 a2 a3 → gx_W p l e (headSpec (ws_ yX3_bestRow cX3_bestRow 5 (some .int)) rmX3_bestRow).room s m args below meth c 5 (tm_I D g cI cJ s M) 0 0 (MQ below (va_Qi Q (tm_B D g cI cJ s.heap.size) (tm_A g s.heap.size)) args s 0 0 (tm_A g s.heap.size)) 6 [(0, .ref (g 0)), (1, .int a1), (2, .int a2), (3, .int a3)] [] := by
  induction n with
  | zero => intro M a1 a2 a3 h; exact False.elim h
  | succ n ih => intro M a1 a2 a3 h; exact tb_X3_bestRow_6 C hK (show tj_X3_bestRow_6 M a1 a2 a3 (fun M a1 a2 a3 => tl_X3_bestRow_6 Q n M a1 a2 a3) Q from h) (fun M a1 a2 a3 h => ih M a1 a2 a3 h)
def tw_X3_bestRow (M : MS) (Q : Int32 → MS → Prop) : Prop :=
  ∃ n : Nat, tl_X3_bestRow_6 Q n M 0 (-1) 0
theorem tk_X3_bestRow {l : Launch} {D : va_G} {g : Nat → Nat} {cI cJ : ClassId} {sz : Nat} {M : MS} {Q : Int32 → MS → Prop} (h : tw_X3_bestRow M Q) : tm_Met l yX3_bestRow cX3_bestRow 5 (some .int) rmX3_bestRow [] D g cI cJ sz M (va_Qi Q (tm_B D g cI cJ sz) (tm_A g sz)) := by
  refine tm_entry (by decide) (Nat.le_of_ble_eq_true rfl) (fun p e s m args below meth c hsz C hK => ?_)
  subst hsz
  unfold tw_X3_bestRow at h
  show gx_W p l e (headSpec (ws_ yX3_bestRow cX3_bestRow 5 (some .int)) rmX3_bestRow).room s m args below meth c 5 (tm_I D g cI cJ s M) 0 0 (MQ below (va_Qi Q (tm_B D g cI cJ s.heap.size) (tm_A g s.heap.size)) args s 0 0 (tm_A g s.heap.size)) 0 [(0, .ref (g 0))] []
  refine gx_iconst (v := 0) C dX3_bestRow_0 (by decide) ?_
  refine gx_istore_n (lv' := [(1, .int 0), (0, .ref (g 0))]) C dX3_bestRow_1 rfl (by decide) rfl ?_
  refine gx_iconst (v := (-1)) C dX3_bestRow_2 (by decide) ?_
  refine gx_istore_n (lv' := [(2, .int ((-1))), (1, .int 0), (0, .ref (g 0))]) C dX3_bestRow_3 rfl (by decide) rfl ?_
  refine gx_iconst (v := 0) C dX3_bestRow_4 (by decide) ?_
  refine gx_istore_n (lv' := [(3, .int 0), (2, .int ((-1))), (1, .int 0), (0, .ref (g 0))]) C dX3_bestRow_5 rfl (by decide) rfl ?_
  refine gx_sub [3, 2, 1, 0] rfl ?_
  obtain ⟨n, h⟩ := h
  exact te_X3_bestRow_6 C hK n M 0 (-1) 0 h
/-! keep()I -/
abbrev rmX3_keep : Room := { frames := 0, cells := 0, slots := 0, locals := 0 }
theorem dmX3_keep : yX3_keep.cls ≠ "java/lang/invoke/MethodHandle" ∧ yX3_keep.cls ≠ "java/lang/invoke/VarHandle" ∧ (parseMethodDescriptor yX3_keep.desc).map (fun d => d.parameters.length) = some 0 := by decide +kernel
def tj_X3_keep_12 (M : MS) (a1 : Int32) (k12 : MS → Int32 → Prop) (Q : Int32 → MS → Prop) : Prop :=
  ((754 ≤ a1 → (vp_in 0 754 ∧ Q (ms_r M 0 0) M)) ∧ (¬ (754 ≤ a1) → (vp_in a1 754 ∧ (vp_in a1 754 ∧ ∀ M30 : MS, M30 = ms_a M 2 a1 (ms_r M 0 a1) → k12 M30 (a1 + 1)))))
theorem tb_X3_keep_12 {l : Launch} {p : Program} {e : Env} {s : State} {m : MethodId} {args : Array Value} {below : List Frame} {meth : Method} {c : Code} {D : va_G} {g : Nat → Nat} {cI cJ : ClassId} (C : gx_C p s m args meth c cX3_keep 2 (some .int) RX3) (hK : va_K D gcl [(cI, .int), (cJ, .long)] s) {M : MS} {a1 : Int32} {k12 : MS → Int32 → Prop} {Q : Int32 → MS → Prop} (h : tj_X3_keep_12 M a1 k12 Q) (hk12 : ∀ (M : MS) (a1 : Int32), k12 M a1 → gx_W p l e (headSpec (ws_ yX3_keep cX3_keep 2 (some .int)) rmX3_keep).room s m args below meth c 2 (tm_I D g cI cJ s M) 0 0 (MQ below (va_Qi Q (tm_B D g cI cJ s.heap.size) (tm_A g s.heap.size)) args s 0 0 (tm_A g s.heap.size)) 12 [(0, .ref (g 0)), (1, .int a1)] []) : gx_W p l e (headSpec (ws_ yX3_keep cX3_keep 2 (some .int)) rmX3_keep).room s m args below meth c 2 (tm_I D g cI cJ s M) 0 0 (MQ below (va_Qi Q (tm_B D g cI cJ s.heap.size) (tm_A g s.heap.size)) args s 0 0 (tm_A g s.heap.size)) 12 [(0, .ref (g 0)), (1, .int a1)] [] := by
  unfold tj_X3_keep_12 at h
  refine gx_iload_n C dX3_keep_12 rfl 1 rfl ?_
  refine gx_sipush (v := 754) C dX3_keep_13 (by decide) ?_
  refine gx_icmp_ge (tgt := 37) C dX3_keep_16 (by decide) (fun z => ?_) (fun z => ?_)
  · replace h := h.1 z
    refine gx_aload_n C dX3_keep_37 rfl 0 rfl ?_
    refine tm_get C hK 1 (by decide) q2301 rfl rfl dX3_keep_38 ?_
    refine gx_iconst (v := 0) C dX3_keep_41 (by decide) ?_
    obtain ⟨g42, h⟩ := h
    refine tm_ald0 C hK g42 dX3_keep_42 ?_
    exact tm_iret C hK h dX3_keep_43
  · replace h := h.2 z
    refine gx_aload_n C dX3_keep_19 rfl 0 rfl ?_
    refine tm_get C hK 4 (by decide) q2304 rfl rfl dX3_keep_20 ?_
    refine gx_iload_n C dX3_keep_23 rfl 1 rfl ?_
    refine gx_aload_n C dX3_keep_24 rfl 0 rfl ?_
    refine tm_get C hK 1 (by decide) q2301 rfl rfl dX3_keep_25 ?_
    refine gx_iload_n C dX3_keep_28 rfl 1 rfl ?_
    obtain ⟨g29, h⟩ := h
    refine tm_ald0 C hK g29 dX3_keep_29 ?_
    obtain ⟨g30, h⟩ := h
    refine tm_ast2 C hK g30 dX3_keep_30 (fun M30 e_M30 => ?_)
    replace h := h M30 e_M30
    refine gx_iinc (v := a1 + 1) (k := 1) (lv' := [(1, .int (a1 + 1)), (0, .ref (g 0))]) C dX3_keep_31 rfl rfl (by decide) rfl ?_
    refine gx_goto (tgt := 12) C dX3_keep_34 (by decide) ?_
    refine gx_sub [1, 0] rfl ?_
    exact hk12 M30 (a1 + 1) h
def tl_X3_keep_12 (Q : Int32 → MS → Prop) : Nat → MS → Int32 → Prop
  | 0, _, _ => False
  | n + 1, M, a1 => tj_X3_keep_12 M a1 (fun M a1 => tl_X3_keep_12 Q n M a1) Q
theorem te_X3_keep_12 {l : Launch} {p : Program} {e : Env} {s : State} {m : MethodId} {args : Array Value} {below : List Frame} {meth : Method} {c : Code} {D : va_G} {g : Nat → Nat} {cI cJ : ClassId} (C : gx_C p s m args meth c cX3_keep 2 (some .int) RX3) (hK : va_K D gcl [(cI, .int), (cJ, .long)] s) {Q : Int32 → MS → Prop}  (n : Nat) : ∀ (M : MS) (a1 : Int32), tl_X3_keep_12 Q n M a1 → gx_W p l e (headSpec (ws_ yX3_keep cX3_keep 2 (some .int)) rmX3_keep).room s m args below meth c 2 (tm_I D g cI cJ s M) 0 0 (MQ below (va_Qi Q (tm_B D g cI cJ s.heap.size) (tm_A g s.heap.size)) args s 0 0 (tm_A g s.heap.size)) 12 [(0, .ref (g 0)), (1, .int a1)] [] := by
  induction n with
  | zero => intro M a1 h; exact False.elim h
  | succ n ih => intro M a1 h; exact tb_X3_keep_12 C hK (show tj_X3_keep_12 M a1 (fun M a1 => tl_X3_keep_12 Q n M a1) Q from h) (fun M a1 h => ih M a1 h)
def tw_X3_keep (M : MS) (Q : Int32 → MS → Prop) : Prop :=
  (∀ M2 : MS, M2 = ms_s M 0 0 → (∀ M7 : MS, M7 = ms_s M2 5 1 → ∃ n : Nat, tl_X3_keep_12 Q n M7 0))
theorem tk_X3_keep {l : Launch} {D : va_G} {g : Nat → Nat} {cI cJ : ClassId} {sz : Nat} {M : MS} {Q : Int32 → MS → Prop} (h : tw_X3_keep M Q) : tm_Met l yX3_keep cX3_keep 2 (some .int) rmX3_keep [] D g cI cJ sz M (va_Qi Q (tm_B D g cI cJ sz) (tm_A g sz)) := by
  refine tm_entry (by decide) (Nat.le_of_ble_eq_true rfl) (fun p e s m args below meth c hsz C hK => ?_)
  subst hsz
  unfold tw_X3_keep at h
  show gx_W p l e (headSpec (ws_ yX3_keep cX3_keep 2 (some .int)) rmX3_keep).room s m args below meth c 2 (tm_I D g cI cJ s M) 0 0 (MQ below (va_Qi Q (tm_B D g cI cJ s.heap.size) (tm_A g s.heap.size)) args s 0 0 (tm_A g s.heap.size)) 0 [(0, .ref (g 0))] []
  refine gx_aload_n C dX3_keep_0 rfl 0 rfl ?_
  refine gx_iconst (v := 0) C dX3_keep_1 (by decide) ?_
  refine tm_put0 C hK q2300 dX3_keep_2 (fun M2 e_M2 => ?_)
  replace h := h M2 e_M2
  refine gx_aload_n C dX3_keep_5 rfl 0 rfl ?_
  refine gx_iconst (v := 1) C dX3_keep_6 (by decide) ?_
  refine tm_put5 C hK q2305 rfl rfl dX3_keep_7 (fun M7 e_M7 => ?_)
  replace h := h M7 e_M7
  refine gx_iconst (v := 0) C dX3_keep_10 (by decide) ?_
  refine gx_istore_n (lv' := [(1, .int 0), (0, .ref (g 0))]) C dX3_keep_11 rfl (by decide) rfl ?_
  refine gx_sub [1, 0] rfl ?_
  obtain ⟨n, h⟩ := h
  exact te_X3_keep_12 C hK n M7 0 h
/-! goBack()I -/
abbrev rmX3_goBack : Room := { frames := 1, cells := 0, slots := 0, locals := 21 }
theorem dmX3_goBack : yX3_goBack.cls ≠ "java/lang/invoke/MethodHandle" ∧ yX3_goBack.cls ≠ "java/lang/invoke/VarHandle" ∧ (parseMethodDescriptor yX3_goBack.desc).map (fun d => d.parameters.length) = some 0 := by decide +kernel
def tj_X3_goBack_31 (M : MS) (a1 : Int32) (k31 : MS → Int32 → Prop) (Q : Int32 → MS → Prop) : Prop :=
  ((754 ≤ a1 → (vp_in 0 754 ∧ Q (ms_r M 0 0) M)) ∧ (¬ (754 ≤ a1) → (vp_in a1 754 ∧ (vp_in a1 754 ∧ ∀ M49 : MS, M49 = ms_a M 0 a1 (ms_r M 2 a1) → k31 M49 (a1 + 1)))))
theorem tb_X3_goBack_31 {l : Launch} {p : Program} {e : Env} {s : State} {m : MethodId} {args : Array Value} {below : List Frame} {meth : Method} {c : Code} {D : va_G} {g : Nat → Nat} {cI cJ : ClassId} (C : gx_C p s m args meth c cX3_goBack 2 (some .int) RX3) (hK : va_K D gcl [(cI, .int), (cJ, .long)] s) {M : MS} {a1 : Int32} {k31 : MS → Int32 → Prop} {Q : Int32 → MS → Prop} (h : tj_X3_goBack_31 M a1 k31 Q) (hk31 : ∀ (M : MS) (a1 : Int32), k31 M a1 → gx_W p l e (headSpec (ws_ yX3_goBack cX3_goBack 2 (some .int)) rmX3_goBack).room s m args below meth c 2 (tm_I D g cI cJ s M) 0 0 (MQ below (va_Qi Q (tm_B D g cI cJ s.heap.size) (tm_A g s.heap.size)) args s 0 0 (tm_A g s.heap.size)) 31 [(0, .ref (g 0)), (1, .int a1)] []) : gx_W p l e (headSpec (ws_ yX3_goBack cX3_goBack 2 (some .int)) rmX3_goBack).room s m args below meth c 2 (tm_I D g cI cJ s M) 0 0 (MQ below (va_Qi Q (tm_B D g cI cJ s.heap.size) (tm_A g s.heap.size)) args s 0 0 (tm_A g s.heap.size)) 31 [(0, .ref (g 0)), (1, .int a1)] [] := by
  unfold tj_X3_goBack_31 at h
  refine gx_iload_n C dX3_goBack_31 rfl 1 rfl ?_
  refine gx_sipush (v := 754) C dX3_goBack_32 (by decide) ?_
  refine gx_icmp_ge (tgt := 56) C dX3_goBack_35 (by decide) (fun z => ?_) (fun z => ?_)
  · replace h := h.1 z
    refine gx_aload_n C dX3_goBack_56 rfl 0 rfl ?_
    refine tm_get C hK 1 (by decide) q2301 rfl rfl dX3_goBack_57 ?_
    refine gx_iconst (v := 0) C dX3_goBack_60 (by decide) ?_
    obtain ⟨g61, h⟩ := h
    refine tm_ald0 C hK g61 dX3_goBack_61 ?_
    exact tm_iret C hK h dX3_goBack_62
  · replace h := h.2 z
    refine gx_aload_n C dX3_goBack_38 rfl 0 rfl ?_
    refine tm_get C hK 1 (by decide) q2301 rfl rfl dX3_goBack_39 ?_
    refine gx_iload_n C dX3_goBack_42 rfl 1 rfl ?_
    refine gx_aload_n C dX3_goBack_43 rfl 0 rfl ?_
    refine tm_get C hK 4 (by decide) q2304 rfl rfl dX3_goBack_44 ?_
    refine gx_iload_n C dX3_goBack_47 rfl 1 rfl ?_
    obtain ⟨g48, h⟩ := h
    refine tm_ald2 C hK g48 dX3_goBack_48 ?_
    obtain ⟨g49, h⟩ := h
    refine tm_ast0 C hK g49 dX3_goBack_49 (fun M49 e_M49 => ?_)
    replace h := h M49 e_M49
    refine gx_iinc (v := a1 + 1) (k := 1) (lv' := [(1, .int (a1 + 1)), (0, .ref (g 0))]) C dX3_goBack_50 rfl rfl (by decide) rfl ?_
    refine gx_goto (tgt := 31) C dX3_goBack_53 (by decide) ?_
    refine gx_sub [1, 0] rfl ?_
    exact hk31 M49 (a1 + 1) h
def tl_X3_goBack_31 (Q : Int32 → MS → Prop) : Nat → MS → Int32 → Prop
  | 0, _, _ => False
  | n + 1, M, a1 => tj_X3_goBack_31 M a1 (fun M a1 => tl_X3_goBack_31 Q n M a1) Q
theorem te_X3_goBack_31 {l : Launch} {p : Program} {e : Env} {s : State} {m : MethodId} {args : Array Value} {below : List Frame} {meth : Method} {c : Code} {D : va_G} {g : Nat → Nat} {cI cJ : ClassId} (C : gx_C p s m args meth c cX3_goBack 2 (some .int) RX3) (hK : va_K D gcl [(cI, .int), (cJ, .long)] s) {Q : Int32 → MS → Prop}  (n : Nat) : ∀ (M : MS) (a1 : Int32), tl_X3_goBack_31 Q n M a1 → gx_W p l e (headSpec (ws_ yX3_goBack cX3_goBack 2 (some .int)) rmX3_goBack).room s m args below meth c 2 (tm_I D g cI cJ s M) 0 0 (MQ below (va_Qi Q (tm_B D g cI cJ s.heap.size) (tm_A g s.heap.size)) args s 0 0 (tm_A g s.heap.size)) 31 [(0, .ref (g 0)), (1, .int a1)] [] := by
  induction n with
  | zero => intro M a1 h; exact False.elim h
  | succ n ih => intro M a1 h; exact tb_X3_goBack_31 C hK (show tj_X3_goBack_31 M a1 (fun M a1 => tl_X3_goBack_31 Q n M a1) Q from h) (fun M a1 h => ih M a1 h)
def tw_X3_goBack (M : MS) (Q : Int32 → MS → Prop) : Prop :=
  (∀ M13 : MS, M13 = ms_s M 0 (if (M.1 5) = 0 then 1 else 0) → (((M13.1 0) ≤ 0 → tw_X3_record M13 (fun M26 => ∃ n : Nat, tl_X3_goBack_31 Q n M26 0)) ∧ (¬ (M13.1 0) ≤ 0 → Q 0 M13)))
theorem tk_X3_goBack {l : Launch} {D : va_G} {g : Nat → Nat} {cI cJ : ClassId} {sz : Nat} {M : MS} {Q : Int32 → MS → Prop} (h : tw_X3_goBack M Q) : tm_Met l yX3_goBack cX3_goBack 2 (some .int) rmX3_goBack [] D g cI cJ sz M (va_Qi Q (tm_B D g cI cJ sz) (tm_A g sz)) := by
  refine tm_entry (by decide) (Nat.le_of_ble_eq_true rfl) (fun p e s m args below meth c hsz C hK => ?_)
  subst hsz
  unfold tw_X3_goBack at h
  show gx_W p l e (headSpec (ws_ yX3_goBack cX3_goBack 2 (some .int)) rmX3_goBack).room s m args below meth c 2 (tm_I D g cI cJ s M) 0 0 (MQ below (va_Qi Q (tm_B D g cI cJ s.heap.size) (tm_A g s.heap.size)) args s 0 0 (tm_A g s.heap.size)) 0 [(0, .ref (g 0))] []
  refine gx_aload_n C dX3_goBack_0 rfl 0 rfl ?_
  refine gx_aload_n C dX3_goBack_1 rfl 0 rfl ?_
  refine tm_get C hK 5 (by decide) q2305 rfl rfl dX3_goBack_2 ?_
  refine gx_phii (t := (if (M.1 5) = 0 then 1 else 0)) (pc2 := 13) (lv2 := [(0, .ref (g 0))]) (rest2 := [.ref (g 0)]) (fun key => ?_) ?_
  · refine gx_if_eq (tgt := 12) C dX3_goBack_5 (by decide) (fun z1 => ?_) (fun z1 => ?_)
    · refine gx_iconst (v := 1) C dX3_goBack_12 (by decide) ?_
      exact gx_casti (if_pos z1) key
    · refine gx_iconst (v := 0) C dX3_goBack_8 (by decide) ?_
      refine gx_goto (tgt := 13) C dX3_goBack_9 (by decide) ?_
      exact gx_casti (if_neg z1) key
  refine tm_put0 C hK q2300 dX3_goBack_13 (fun M13 e_M13 => ?_)
  replace h := h M13 e_M13
  refine gx_aload_n C dX3_goBack_16 rfl 0 rfl ?_
  refine tm_get C hK 0 (by decide) q2300 rfl rfl dX3_goBack_17 ?_
  refine gx_if_le (tgt := 25) C dX3_goBack_20 (by decide) (fun z => ?_) (fun z => ?_)
  · replace h := h.1 z
    refine gx_aload_n C dX3_goBack_25 rfl 0 rfl ?_
    refine tm_callv (rest := []) C hK (fun sz => tk_X3_record h) (cwV 0 C.t (lw_V q2371 q2373 qs47 q130 q2374) rfl rfl rfl ⟨rfl, dmX3_record⟩ ⟨Nat.le_of_ble_eq_true rfl, Nat.le_of_ble_eq_true rfl⟩) rfl rfl (Nat.le_of_ble_eq_true rfl) dX3_goBack_26 (fun M26 h => ?_)
    refine gx_iconst (v := 0) C dX3_goBack_29 (by decide) ?_
    refine gx_istore_n (lv' := [(1, .int 0), (0, .ref (g 0))]) C dX3_goBack_30 rfl (by decide) rfl ?_
    refine gx_sub [1, 0] rfl ?_
    obtain ⟨n, h⟩ := h
    exact te_X3_goBack_31 C hK n M26 0 h
  · replace h := h.2 z
    refine gx_iconst (v := 0) C dX3_goBack_23 (by decide) ?_
    exact tm_iret C hK h dX3_goBack_24
/-! append(I)I -/
abbrev rmX3_append : Room := { frames := 1, cells := 0, slots := 0, locals := 22 }
theorem dmX3_append : yX3_append.cls ≠ "java/lang/invoke/MethodHandle" ∧ yX3_append.cls ≠ "java/lang/invoke/VarHandle" ∧ (parseMethodDescriptor yX3_append.desc).map (fun d => d.parameters.length) = some 1 := by decide +kernel
def tw_X3_append (M : MS) (a1 : Int32) (Q : Int32 → MS → Prop) : Prop :=
  pw_X3_within a1 33 126 (fun r6 => (∀ M30 : MS, M30 = ms_s M 0 (if r6 = 0 then 1 else (if (M.1 11) = 60 then 2 else 0)) → (((M30.1 0) ≤ 0 → (vp_in (M30.1 11) 60 ∧ ∀ M51 : MS, M51 = ms_a M30 6 (M30.1 11) a1 → (∀ M59 : MS, M59 = ms_s M51 11 ((M51.1 11) + 1) → Q (M59.1 11) M59))) ∧ (¬ (M30.1 0) ≤ 0 → Q 0 M30))))
theorem tk_X3_append {l : Launch} {D : va_G} {g : Nat → Nat} {cI cJ : ClassId} {sz : Nat} {M : MS} {a1 : Int32} {Q : Int32 → MS → Prop} (h : tw_X3_append M a1 Q) : tm_Met l yX3_append cX3_append 2 (some .int) rmX3_append [.int a1] D g cI cJ sz M (va_Qi Q (tm_B D g cI cJ sz) (tm_A g sz)) := by
  refine tm_entry (by decide) (Nat.le_of_ble_eq_true rfl) (fun p e s m args below meth c hsz C hK => ?_)
  subst hsz
  unfold tw_X3_append at h
  show gx_W p l e (headSpec (ws_ yX3_append cX3_append 2 (some .int)) rmX3_append).room s m args below meth c 2 (tm_I D g cI cJ s M) 0 0 (MQ below (va_Qi Q (tm_B D g cI cJ s.heap.size) (tm_A g s.heap.size)) args s 0 0 (tm_A g s.heap.size)) 0 [(0, .ref (g 0)), (1, .int a1)] []
  refine gx_aload_n C dX3_append_0 rfl 0 rfl ?_
  refine gx_iload_n C dX3_append_1 rfl 1 rfl ?_
  refine gx_bipush (v := 33) C dX3_append_2 (by decide) ?_
  refine gx_bipush (v := 126) C dX3_append_4 (by decide) ?_
  refine gx_calls_i (rest := [.ref (g 0)]) C (pk_X3_within h) (va_cwS 3 C.t (lw_S q2360 q2361 q130 q2362) rfl rfl rfl dmX3_within ⟨Nat.le_of_ble_eq_true rfl, Nat.le_of_ble_eq_true rfl⟩) rfl rfl (Nat.le_of_ble_eq_true rfl) ⟨Nat.zero_le _, Nat.zero_le _⟩ dX3_append_6 (fun r6 h => ?_)
  refine gx_phii (t := (if r6 = 0 then 1 else (if (M.1 11) = 60 then 2 else 0))) (pc2 := 30) (lv2 := [(0, .ref (g 0)), (1, .int a1)]) (rest2 := [.ref (g 0)]) (fun key => ?_) ?_
  · refine gx_if_ne (tgt := 16) C dX3_append_9 (by decide) (fun z1 => ?_) (fun z1 => ?_)
    · refine gx_aload_n C dX3_append_16 rfl 0 rfl ?_
      refine tm_get C hK 11 (by decide) q2311 rfl rfl dX3_append_17 ?_
      refine gx_bipush (v := 60) C dX3_append_20 (by decide) ?_
      refine gx_icmp_ne (tgt := 29) C dX3_append_22 (by decide) (fun z2 => ?_) (fun z2 => ?_)
      · refine gx_iconst (v := 0) C dX3_append_29 (by decide) ?_
        exact gx_casti ((if_neg z1).trans (if_neg z2)) key
      · refine gx_iconst (v := 2) C dX3_append_25 (by decide) ?_
        refine gx_goto (tgt := 30) C dX3_append_26 (by decide) ?_
        exact gx_casti ((if_neg z1).trans (if_pos z2)) key
    · refine gx_iconst (v := 1) C dX3_append_12 (by decide) ?_
      refine gx_goto (tgt := 30) C dX3_append_13 (by decide) ?_
      exact gx_casti (if_pos z1) key
  refine tm_put0 C hK q2300 dX3_append_30 (fun M30 e_M30 => ?_)
  replace h := h M30 e_M30
  refine gx_aload_n C dX3_append_33 rfl 0 rfl ?_
  refine tm_get C hK 0 (by decide) q2300 rfl rfl dX3_append_34 ?_
  refine gx_if_le (tgt := 42) C dX3_append_37 (by decide) (fun z => ?_) (fun z => ?_)
  · replace h := h.1 z
    refine gx_aload_n C dX3_append_42 rfl 0 rfl ?_
    refine tm_get C hK 10 (by decide) q2310 rfl rfl dX3_append_43 ?_
    refine gx_aload_n C dX3_append_46 rfl 0 rfl ?_
    refine tm_get C hK 11 (by decide) q2311 rfl rfl dX3_append_47 ?_
    refine gx_iload_n C dX3_append_50 rfl 1 rfl ?_
    obtain ⟨g51, h⟩ := h
    refine tm_ast6 C hK g51 dX3_append_51 (fun M51 e_M51 => ?_)
    replace h := h M51 e_M51
    refine gx_aload_n C dX3_append_52 rfl 0 rfl ?_
    refine gx_dup C dX3_append_53 rfl ?_
    refine tm_get C hK 11 (by decide) q2311 rfl rfl dX3_append_54 ?_
    refine gx_iconst (v := 1) C dX3_append_57 (by decide) ?_
    refine gx_iadd C dX3_append_58 ?_
    refine tm_put11 C hK q2311 dX3_append_59 (fun M59 e_M59 => ?_)
    replace h := h M59 e_M59
    refine gx_aload_n C dX3_append_62 rfl 0 rfl ?_
    refine tm_get C hK 11 (by decide) q2311 rfl rfl dX3_append_63 ?_
    exact tm_iret C hK h dX3_append_66
  · replace h := h.2 z
    refine gx_iconst (v := 0) C dX3_append_40 (by decide) ?_
    exact tm_iret C hK h dX3_append_41
/-! clearText()I -/
abbrev rmX3_clearText : Room := { frames := 0, cells := 0, slots := 0, locals := 0 }
theorem dmX3_clearText : yX3_clearText.cls ≠ "java/lang/invoke/MethodHandle" ∧ yX3_clearText.cls ≠ "java/lang/invoke/VarHandle" ∧ (parseMethodDescriptor yX3_clearText.desc).map (fun d => d.parameters.length) = some 0 := by decide +kernel
def tw_X3_clearText (M : MS) (Q : Int32 → MS → Prop) : Prop :=
  (∀ M2 : MS, M2 = ms_s M 0 0 → (∀ M12 : MS, M12 = ms_s M2 11 0 → Q (M2.1 11) M12))
theorem tk_X3_clearText {l : Launch} {D : va_G} {g : Nat → Nat} {cI cJ : ClassId} {sz : Nat} {M : MS} {Q : Int32 → MS → Prop} (h : tw_X3_clearText M Q) : tm_Met l yX3_clearText cX3_clearText 2 (some .int) rmX3_clearText [] D g cI cJ sz M (va_Qi Q (tm_B D g cI cJ sz) (tm_A g sz)) := by
  refine tm_entry (by decide) (Nat.le_of_ble_eq_true rfl) (fun p e s m args below meth c hsz C hK => ?_)
  subst hsz
  unfold tw_X3_clearText at h
  show gx_W p l e (headSpec (ws_ yX3_clearText cX3_clearText 2 (some .int)) rmX3_clearText).room s m args below meth c 2 (tm_I D g cI cJ s M) 0 0 (MQ below (va_Qi Q (tm_B D g cI cJ s.heap.size) (tm_A g s.heap.size)) args s 0 0 (tm_A g s.heap.size)) 0 [(0, .ref (g 0))] []
  refine gx_aload_n C dX3_clearText_0 rfl 0 rfl ?_
  refine gx_iconst (v := 0) C dX3_clearText_1 (by decide) ?_
  refine tm_put0 C hK q2300 dX3_clearText_2 (fun M2 e_M2 => ?_)
  replace h := h M2 e_M2
  refine gx_aload_n C dX3_clearText_5 rfl 0 rfl ?_
  refine tm_get C hK 11 (by decide) q2311 rfl rfl dX3_clearText_6 ?_
  refine gx_istore_n (lv' := [(1, .int (M2.1 11)), (0, .ref (g 0))]) C dX3_clearText_9 rfl (by decide) rfl ?_
  refine gx_aload_n C dX3_clearText_10 rfl 1 rfl ?_
  refine gx_iconst (v := 0) C dX3_clearText_11 (by decide) ?_
  refine tm_put11 C hK q2311 dX3_clearText_12 (fun M12 e_M12 => ?_)
  replace h := h M12 e_M12
  refine gx_iload_n C dX3_clearText_15 rfl 0 rfl ?_
  exact tm_iret C hK h dX3_clearText_16
/-! accepts(II)Z -/
abbrev rmX3_accepts : Room := { frames := 1, cells := 0, slots := 0, locals := 22 }
theorem dmX3_accepts : yX3_accepts.cls ≠ "java/lang/invoke/MethodHandle" ∧ yX3_accepts.cls ≠ "java/lang/invoke/VarHandle" ∧ (parseMethodDescriptor yX3_accepts.desc).map (fun d => d.parameters.length) = some 2 := by decide +kernel
def tj_X3_accepts_33 (M : MS) (s0 : Int32) (Q : Int32 → MS → Prop) : Prop :=
  (∀ M49 : MS, M49 = ms_s M 12 ((M.1 12) + (if s0 = 0 then 0 else 1)) → (narrow .boolean (.int s0) = .int s0 ∧ Q s0 M49))
theorem tb_X3_accepts_33 {l : Launch} {p : Program} {e : Env} {s : State} {m : MethodId} {args : Array Value} {below : List Frame} {meth : Method} {c : Code} {D : va_G} {g : Nat → Nat} {cI cJ : ClassId} (C : gx_C p s m args meth c cX3_accepts 4 (some .boolean) RX3) (hK : va_K D gcl [(cI, .int), (cJ, .long)] s) {M : MS} {s0 : Int32} {Q : Int32 → MS → Prop} (h : tj_X3_accepts_33 M s0 Q)  : gx_W p l e (headSpec (ws_ yX3_accepts cX3_accepts 4 (some .boolean)) rmX3_accepts).room s m args below meth c 4 (tm_I D g cI cJ s M) 0 0 (MQ below (va_Qi Q (tm_B D g cI cJ s.heap.size) (tm_A g s.heap.size)) args s 0 0 (tm_A g s.heap.size)) 33 [(0, .ref (g 0))] [.int s0] := by
  unfold tj_X3_accepts_33 at h
  refine gx_istore_n (lv' := [(3, .int s0), (0, .ref (g 0))]) C dX3_accepts_33 rfl (by decide) rfl ?_
  refine gx_aload_n C dX3_accepts_34 rfl 1 rfl ?_
  refine gx_dup C dX3_accepts_35 rfl ?_
  refine tm_get C hK 12 (by decide) q2312 rfl rfl dX3_accepts_36 ?_
  refine gx_iload_n C dX3_accepts_39 rfl 0 rfl ?_
  refine gx_phii (t := (if s0 = 0 then 0 else 1)) (pc2 := 48) (lv2 := [(3, .int s0), (0, .ref (g 0))]) (rest2 := [.int (M.1 12), .ref (g 0)]) (fun key => ?_) ?_
  · refine gx_if_eq (tgt := 47) C dX3_accepts_40 (by decide) (fun z1 => ?_) (fun z1 => ?_)
    · refine gx_iconst (v := 0) C dX3_accepts_47 (by decide) ?_
      exact gx_casti (if_pos z1) key
    · refine gx_iconst (v := 1) C dX3_accepts_43 (by decide) ?_
      refine gx_goto (tgt := 48) C dX3_accepts_44 (by decide) ?_
      exact gx_casti (if_neg z1) key
  refine gx_iadd C dX3_accepts_48 ?_
  refine tm_put12 C hK q2312 dX3_accepts_49 (fun M49 e_M49 => ?_)
  replace h := h M49 e_M49
  refine gx_iload_n C dX3_accepts_52 rfl 0 rfl ?_
  obtain ⟨g53, h⟩ := h
  exact tm_zret C hK g53 h dX3_accepts_53
def tj_X3_accepts_32 (M : MS) (Q : Int32 → MS → Prop) : Prop :=
  tj_X3_accepts_33 M 0 Q
theorem tb_X3_accepts_32 {l : Launch} {p : Program} {e : Env} {s : State} {m : MethodId} {args : Array Value} {below : List Frame} {meth : Method} {c : Code} {D : va_G} {g : Nat → Nat} {cI cJ : ClassId} (C : gx_C p s m args meth c cX3_accepts 4 (some .boolean) RX3) (hK : va_K D gcl [(cI, .int), (cJ, .long)] s) {M : MS} {Q : Int32 → MS → Prop} (h : tj_X3_accepts_32 M Q)  : gx_W p l e (headSpec (ws_ yX3_accepts cX3_accepts 4 (some .boolean)) rmX3_accepts).room s m args below meth c 4 (tm_I D g cI cJ s M) 0 0 (MQ below (va_Qi Q (tm_B D g cI cJ s.heap.size) (tm_A g s.heap.size)) args s 0 0 (tm_A g s.heap.size)) 32 [(0, .ref (g 0))] [] := by
  unfold tj_X3_accepts_32 at h
  refine gx_iconst (v := 0) C dX3_accepts_32 (by decide) ?_
  exact tb_X3_accepts_33 C hK h
def tw_X3_accepts (M : MS) (a1 : Int32) (a2 : Int32) (Q : Int32 → MS → Prop) : Prop :=
  (((M.1 11) ≤ (M.1 12) → tj_X3_accepts_32 M Q) ∧ (¬ (M.1 11) ≤ (M.1 12) → (vp_in (M.1 12) 60 ∧ pw_X3_within (ms_r M 6 (M.1 12)) a1 a2 (fun r22 => ((r22 = 0 → tj_X3_accepts_32 M Q) ∧ (¬ (r22 = 0) → tj_X3_accepts_33 M 1 Q))))))
theorem tk_X3_accepts {l : Launch} {D : va_G} {g : Nat → Nat} {cI cJ : ClassId} {sz : Nat} {M : MS} {a1 : Int32} {a2 : Int32} {Q : Int32 → MS → Prop} (h : tw_X3_accepts M a1 a2 Q) : tm_Met l yX3_accepts cX3_accepts 4 (some .boolean) rmX3_accepts [.int a1, .int a2] D g cI cJ sz M (va_Qi Q (tm_B D g cI cJ sz) (tm_A g sz)) := by
  refine tm_entry (by decide) (Nat.le_of_ble_eq_true rfl) (fun p e s m args below meth c hsz C hK => ?_)
  subst hsz
  unfold tw_X3_accepts at h
  show gx_W p l e (headSpec (ws_ yX3_accepts cX3_accepts 4 (some .boolean)) rmX3_accepts).room s m args below meth c 4 (tm_I D g cI cJ s M) 0 0 (MQ below (va_Qi Q (tm_B D g cI cJ s.heap.size) (tm_A g s.heap.size)) args s 0 0 (tm_A g s.heap.size)) 0 [(0, .ref (g 0)), (1, .int a1), (2, .int a2)] []
  refine gx_aload_n C dX3_accepts_0 rfl 0 rfl ?_
  refine tm_get C hK 12 (by decide) q2312 rfl rfl dX3_accepts_1 ?_
  refine gx_aload_n C dX3_accepts_4 rfl 0 rfl ?_
  refine tm_get C hK 11 (by decide) q2311 rfl rfl dX3_accepts_5 ?_
  refine gx_icmp_ge (tgt := 32) C dX3_accepts_8 (by decide) (fun z => ?_) (fun z => ?_)
  · replace h := h.1 z
    refine gx_sub [0] rfl ?_
    exact tb_X3_accepts_32 C hK h
  · replace h := h.2 z
    refine gx_aload_n C dX3_accepts_11 rfl 0 rfl ?_
    refine tm_get C hK 10 (by decide) q2310 rfl rfl dX3_accepts_12 ?_
    refine gx_aload_n C dX3_accepts_15 rfl 0 rfl ?_
    refine tm_get C hK 12 (by decide) q2312 rfl rfl dX3_accepts_16 ?_
    obtain ⟨g19, h⟩ := h
    refine tm_ald6 C hK g19 dX3_accepts_19 ?_
    refine gx_iload_n C dX3_accepts_20 rfl 1 rfl ?_
    refine gx_iload_n C dX3_accepts_21 rfl 2 rfl ?_
    refine gx_calls_i (rest := []) C (pk_X3_within h) (va_cwS 3 C.t (lw_S q2360 q2361 q130 q2362) rfl rfl rfl dmX3_within ⟨Nat.le_of_ble_eq_true rfl, Nat.le_of_ble_eq_true rfl⟩) rfl rfl (Nat.le_of_ble_eq_true rfl) ⟨Nat.zero_le _, Nat.zero_le _⟩ dX3_accepts_22 (fun r22 h => ?_)
    refine gx_if_eq (tgt := 32) C dX3_accepts_25 (by decide) (fun z => ?_) (fun z => ?_)
    · replace h := h.1 z
      refine gx_sub [0] rfl ?_
      exact tb_X3_accepts_32 C hK h
    · replace h := h.2 z
      refine gx_iconst (v := 1) C dX3_accepts_28 (by decide) ?_
      refine gx_goto (tgt := 33) C dX3_accepts_29 (by decide) ?_
      refine gx_sub [0] rfl ?_
      exact tb_X3_accepts_33 C hK h
/-! readsNumber(II)Z -/
abbrev rmX3_readsNumber : Room := { frames := 2, cells := 0, slots := 0, locals := 45 }
theorem dmX3_readsNumber : yX3_readsNumber.cls ≠ "java/lang/invoke/MethodHandle" ∧ yX3_readsNumber.cls ≠ "java/lang/invoke/VarHandle" ∧ (parseMethodDescriptor yX3_readsNumber.desc).map (fun d => d.parameters.length) = some 2 := by decide +kernel
def tj_X3_readsNumber_131 (M : MS) (Q : Int32 → MS → Prop) : Prop :=
  Q 1 M
theorem tb_X3_readsNumber_131 {l : Launch} {p : Program} {e : Env} {s : State} {m : MethodId} {args : Array Value} {below : List Frame} {meth : Method} {c : Code} {D : va_G} {g : Nat → Nat} {cI cJ : ClassId} (C : gx_C p s m args meth c cX3_readsNumber 3 (some .boolean) RX3) (hK : va_K D gcl [(cI, .int), (cJ, .long)] s) {M : MS} {Q : Int32 → MS → Prop} (h : tj_X3_readsNumber_131 M Q)  : gx_W p l e (headSpec (ws_ yX3_readsNumber cX3_readsNumber 3 (some .boolean)) rmX3_readsNumber).room s m args below meth c 3 (tm_I D g cI cJ s M) 0 0 (MQ below (va_Qi Q (tm_B D g cI cJ s.heap.size) (tm_A g s.heap.size)) args s 0 0 (tm_A g s.heap.size)) 131 [] [] := by
  unfold tj_X3_readsNumber_131 at h
  refine gx_iconst (v := 1) C dX3_readsNumber_131 (by decide) ?_
  exact tm_zret C hK rfl h dX3_readsNumber_132
def tj_X3_readsNumber_33 (M : MS) (a2 : Int32) (k33 : MS → Int32 → Prop) (Q : Int32 → MS → Prop) : Prop :=
  (((M.1 13) ≤ 0 → tj_X3_readsNumber_131 M Q) ∧ (¬ (M.1 13) ≤ 0 → (((M.1 11) ≤ (M.1 12) → tj_X3_readsNumber_131 M Q) ∧ (¬ (M.1 11) ≤ (M.1 12) → (vp_in (M.1 12) 60 ∧ pw_X3_within (ms_r M 6 (M.1 12)) 48 57 (fun r64 => ((r64 = 0 → tj_X3_readsNumber_131 M Q) ∧ (¬ (r64 = 0) → (vp_in (M.1 12) 60 ∧ ((a2 < (((10 * (M.1 13)) + (ms_r M 6 (M.1 12))) - 48) → tj_X3_readsNumber_131 M Q) ∧ (¬ (a2 < (((10 * (M.1 13)) + (ms_r M 6 (M.1 12))) - 48)) → (vp_in (M.1 12) 60 ∧ (∀ M115 : MS, M115 = ms_s M 13 (((10 * (M.1 13)) + (ms_r M 6 (M.1 12))) - 48) → (∀ M125 : MS, M125 = ms_s M115 12 ((M115.1 12) + 1) → k33 M125 a2))))))))))))))
theorem tb_X3_readsNumber_33 {l : Launch} {p : Program} {e : Env} {s : State} {m : MethodId} {args : Array Value} {below : List Frame} {meth : Method} {c : Code} {D : va_G} {g : Nat → Nat} {cI cJ : ClassId} (C : gx_C p s m args meth c cX3_readsNumber 3 (some .boolean) RX3) (hK : va_K D gcl [(cI, .int), (cJ, .long)] s) {M : MS} {a2 : Int32} {k33 : MS → Int32 → Prop} {Q : Int32 → MS → Prop} (h : tj_X3_readsNumber_33 M a2 k33 Q) (hk33 : ∀ (M : MS) (a2 : Int32), k33 M a2 → gx_W p l e (headSpec (ws_ yX3_readsNumber cX3_readsNumber 3 (some .boolean)) rmX3_readsNumber).room s m args below meth c 3 (tm_I D g cI cJ s M) 0 0 (MQ below (va_Qi Q (tm_B D g cI cJ s.heap.size) (tm_A g s.heap.size)) args s 0 0 (tm_A g s.heap.size)) 33 [(0, .ref (g 0)), (2, .int a2)] []) : gx_W p l e (headSpec (ws_ yX3_readsNumber cX3_readsNumber 3 (some .boolean)) rmX3_readsNumber).room s m args below meth c 3 (tm_I D g cI cJ s M) 0 0 (MQ below (va_Qi Q (tm_B D g cI cJ s.heap.size) (tm_A g s.heap.size)) args s 0 0 (tm_A g s.heap.size)) 33 [(0, .ref (g 0)), (2, .int a2)] [] := by
  unfold tj_X3_readsNumber_33 at h
  refine gx_aload_n C dX3_readsNumber_33 rfl 0 rfl ?_
  refine tm_get C hK 13 (by decide) q2313 rfl rfl dX3_readsNumber_34 ?_
  refine gx_if_le (tgt := 131) C dX3_readsNumber_37 (by decide) (fun z => ?_) (fun z => ?_)
  · replace h := h.1 z
    refine gx_sub [] rfl ?_
    exact tb_X3_readsNumber_131 C hK h
  · replace h := h.2 z
    refine gx_aload_n C dX3_readsNumber_40 rfl 0 rfl ?_
    refine tm_get C hK 12 (by decide) q2312 rfl rfl dX3_readsNumber_41 ?_
    refine gx_aload_n C dX3_readsNumber_44 rfl 0 rfl ?_
    refine tm_get C hK 11 (by decide) q2311 rfl rfl dX3_readsNumber_45 ?_
    refine gx_icmp_ge (tgt := 131) C dX3_readsNumber_48 (by decide) (fun z => ?_) (fun z => ?_)
    · replace h := h.1 z
      refine gx_sub [] rfl ?_
      exact tb_X3_readsNumber_131 C hK h
    · replace h := h.2 z
      refine gx_aload_n C dX3_readsNumber_51 rfl 0 rfl ?_
      refine tm_get C hK 10 (by decide) q2310 rfl rfl dX3_readsNumber_52 ?_
      refine gx_aload_n C dX3_readsNumber_55 rfl 0 rfl ?_
      refine tm_get C hK 12 (by decide) q2312 rfl rfl dX3_readsNumber_56 ?_
      obtain ⟨g59, h⟩ := h
      refine tm_ald6 C hK g59 dX3_readsNumber_59 ?_
      refine gx_bipush (v := 48) C dX3_readsNumber_60 (by decide) ?_
      refine gx_bipush (v := 57) C dX3_readsNumber_62 (by decide) ?_
      refine gx_calls_i (rest := []) C (pk_X3_within h) (va_cwS 3 C.t (lw_S q2360 q2361 q130 q2362) rfl rfl rfl dmX3_within ⟨Nat.le_of_ble_eq_true rfl, Nat.le_of_ble_eq_true rfl⟩) rfl rfl (Nat.le_of_ble_eq_true rfl) ⟨Nat.zero_le _, Nat.zero_le _⟩ dX3_readsNumber_64 (fun r64 h => ?_)
      refine gx_if_eq (tgt := 131) C dX3_readsNumber_67 (by decide) (fun z => ?_) (fun z => ?_)
      · replace h := h.1 z
        refine gx_sub [] rfl ?_
        exact tb_X3_readsNumber_131 C hK h
      · replace h := h.2 z
        refine gx_bipush (v := 10) C dX3_readsNumber_70 (by decide) ?_
        refine gx_aload_n C dX3_readsNumber_72 rfl 0 rfl ?_
        refine tm_get C hK 13 (by decide) q2313 rfl rfl dX3_readsNumber_73 ?_
        refine gx_imul C dX3_readsNumber_76 ?_
        refine gx_aload_n C dX3_readsNumber_77 rfl 0 rfl ?_
        refine tm_get C hK 10 (by decide) q2310 rfl rfl dX3_readsNumber_78 ?_
        refine gx_aload_n C dX3_readsNumber_81 rfl 0 rfl ?_
        refine tm_get C hK 12 (by decide) q2312 rfl rfl dX3_readsNumber_82 ?_
        obtain ⟨g85, h⟩ := h
        refine tm_ald6 C hK g85 dX3_readsNumber_85 ?_
        refine gx_iadd C dX3_readsNumber_86 ?_
        refine gx_bipush (v := 48) C dX3_readsNumber_87 (by decide) ?_
        refine gx_isub C dX3_readsNumber_89 ?_
        refine gx_iload_n C dX3_readsNumber_90 rfl 1 rfl ?_
        refine gx_icmp_gt (tgt := 131) C dX3_readsNumber_91 (by decide) (fun z => ?_) (fun z => ?_)
        · replace h := h.1 z
          refine gx_sub [] rfl ?_
          exact tb_X3_readsNumber_131 C hK h
        · replace h := h.2 z
          refine gx_aload_n C dX3_readsNumber_94 rfl 0 rfl ?_
          refine gx_bipush (v := 10) C dX3_readsNumber_95 (by decide) ?_
          refine gx_aload_n C dX3_readsNumber_97 rfl 0 rfl ?_
          refine tm_get C hK 13 (by decide) q2313 rfl rfl dX3_readsNumber_98 ?_
          refine gx_imul C dX3_readsNumber_101 ?_
          refine gx_aload_n C dX3_readsNumber_102 rfl 0 rfl ?_
          refine tm_get C hK 10 (by decide) q2310 rfl rfl dX3_readsNumber_103 ?_
          refine gx_aload_n C dX3_readsNumber_106 rfl 0 rfl ?_
          refine tm_get C hK 12 (by decide) q2312 rfl rfl dX3_readsNumber_107 ?_
          obtain ⟨g110, h⟩ := h
          refine tm_ald6 C hK g110 dX3_readsNumber_110 ?_
          refine gx_iadd C dX3_readsNumber_111 ?_
          refine gx_bipush (v := 48) C dX3_readsNumber_112 (by decide) ?_
          refine gx_isub C dX3_readsNumber_114 ?_
          refine tm_put13 C hK q2313 dX3_readsNumber_115 (fun M115 e_M115 => ?_)
          replace h := h M115 e_M115
          refine gx_aload_n C dX3_readsNumber_118 rfl 0 rfl ?_
          refine gx_dup C dX3_readsNumber_119 rfl ?_
          refine tm_get C hK 12 (by decide) q2312 rfl rfl dX3_readsNumber_120 ?_
          refine gx_iconst (v := 1) C dX3_readsNumber_123 (by decide) ?_
          refine gx_iadd C dX3_readsNumber_124 ?_
          refine tm_put12 C hK q2312 dX3_readsNumber_125 (fun M125 e_M125 => ?_)
          replace h := h M125 e_M125
          refine gx_goto (tgt := 33) C dX3_readsNumber_128 (by decide) ?_
          exact hk33 M125 a2 h
def tl_X3_readsNumber_33 (Q : Int32 → MS → Prop) : Nat → MS → Int32 → Prop
  | 0, _, _ => False
  | n + 1, M, a2 => tj_X3_readsNumber_33 M a2 (fun M a2 => tl_X3_readsNumber_33 Q n M a2) Q
theorem te_X3_readsNumber_33 {l : Launch} {p : Program} {e : Env} {s : State} {m : MethodId} {args : Array Value} {below : List Frame} {meth : Method} {c : Code} {D : va_G} {g : Nat → Nat} {cI cJ : ClassId} (C : gx_C p s m args meth c cX3_readsNumber 3 (some .boolean) RX3) (hK : va_K D gcl [(cI, .int), (cJ, .long)] s) {Q : Int32 → MS → Prop}  (n : Nat) : ∀ (M : MS) (a2 : Int32), tl_X3_readsNumber_33 Q n M a2 → gx_W p l e (headSpec (ws_ yX3_readsNumber cX3_readsNumber 3 (some .boolean)) rmX3_readsNumber).room s m args below meth c 3 (tm_I D g cI cJ s M) 0 0 (MQ below (va_Qi Q (tm_B D g cI cJ s.heap.size) (tm_A g s.heap.size)) args s 0 0 (tm_A g s.heap.size)) 33 [(0, .ref (g 0)), (2, .int a2)] [] := by
  induction n with
  | zero => intro M a2 h; exact False.elim h
  | succ n ih => intro M a2 h; exact tb_X3_readsNumber_33 C hK (show tj_X3_readsNumber_33 M a2 (fun M a2 => tl_X3_readsNumber_33 Q n M a2) Q from h) (fun M a2 h => ih M a2 h)
def tw_X3_readsNumber (M : MS) (a1 : Int32) (a2 : Int32) (Q : Int32 → MS → Prop) : Prop :=
  tw_X3_accepts M (48 + a1) 57 (fun r7 M7 => ((r7 = 0 → Q 0 M7) ∧ (¬ (r7 = 0) → (vp_in ((M7.1 12) - 1) 60 ∧ (∀ M30 : MS, M30 = ms_s M7 13 ((ms_r M7 6 ((M7.1 12) - 1)) - 48) → ∃ n : Nat, tl_X3_readsNumber_33 Q n M30 a2)))))
theorem tk_X3_readsNumber {l : Launch} {D : va_G} {g : Nat → Nat} {cI cJ : ClassId} {sz : Nat} {M : MS} {a1 : Int32} {a2 : Int32} {Q : Int32 → MS → Prop} (h : tw_X3_readsNumber M a1 a2 Q) : tm_Met l yX3_readsNumber cX3_readsNumber 3 (some .boolean) rmX3_readsNumber [.int a1, .int a2] D g cI cJ sz M (va_Qi Q (tm_B D g cI cJ sz) (tm_A g sz)) := by
  refine tm_entry (by decide) (Nat.le_of_ble_eq_true rfl) (fun p e s m args below meth c hsz C hK => ?_)
  subst hsz
  unfold tw_X3_readsNumber at h
  show gx_W p l e (headSpec (ws_ yX3_readsNumber cX3_readsNumber 3 (some .boolean)) rmX3_readsNumber).room s m args below meth c 3 (tm_I D g cI cJ s M) 0 0 (MQ below (va_Qi Q (tm_B D g cI cJ s.heap.size) (tm_A g s.heap.size)) args s 0 0 (tm_A g s.heap.size)) 0 [(0, .ref (g 0)), (1, .int a1), (2, .int a2)] []
  refine gx_aload_n C dX3_readsNumber_0 rfl 0 rfl ?_
  refine gx_bipush (v := 48) C dX3_readsNumber_1 (by decide) ?_
  refine gx_iload_n C dX3_readsNumber_3 rfl 1 rfl ?_
  refine gx_iadd C dX3_readsNumber_4 ?_
  refine gx_bipush (v := 57) C dX3_readsNumber_5 (by decide) ?_
  refine tm_calli (rest := []) C hK (fun sz => tk_X3_accepts h) (cwV 2 C.t (lw_V q2914 q2916 qs113 q130 q2917) rfl rfl rfl ⟨rfl, dmX3_accepts⟩ ⟨Nat.le_of_ble_eq_true rfl, Nat.le_of_ble_eq_true rfl⟩) rfl rfl (Nat.le_of_ble_eq_true rfl) dX3_readsNumber_7 (fun r7 M7 h => ?_)
  refine gx_if_ne (tgt := 15) C dX3_readsNumber_10 (by decide) (fun z => ?_) (fun z => ?_)
  · replace h := h.2 z
    refine gx_aload_n C dX3_readsNumber_15 rfl 0 rfl ?_
    refine gx_aload_n C dX3_readsNumber_16 rfl 0 rfl ?_
    refine tm_get C hK 10 (by decide) q2310 rfl rfl dX3_readsNumber_17 ?_
    refine gx_aload_n C dX3_readsNumber_20 rfl 0 rfl ?_
    refine tm_get C hK 12 (by decide) q2312 rfl rfl dX3_readsNumber_21 ?_
    refine gx_iconst (v := 1) C dX3_readsNumber_24 (by decide) ?_
    refine gx_isub C dX3_readsNumber_25 ?_
    obtain ⟨g26, h⟩ := h
    refine tm_ald6 C hK g26 dX3_readsNumber_26 ?_
    refine gx_bipush (v := 48) C dX3_readsNumber_27 (by decide) ?_
    refine gx_isub C dX3_readsNumber_29 ?_
    refine tm_put13 C hK q2313 dX3_readsNumber_30 (fun M30 e_M30 => ?_)
    replace h := h M30 e_M30
    refine gx_sub [0, 2] rfl ?_
    obtain ⟨n, h⟩ := h
    exact te_X3_readsNumber_33 C hK n M30 a2 h
  · replace h := h.1 z
    refine gx_iconst (v := 0) C dX3_readsNumber_13 (by decide) ?_
    exact tm_zret C hK rfl h dX3_readsNumber_14
/-! readsOwl()Z -/
abbrev rmX3_readsOwl : Room := { frames := 3, cells := 0, slots := 0, locals := 67 }
theorem dmX3_readsOwl : yX3_readsOwl.cls ≠ "java/lang/invoke/MethodHandle" ∧ yX3_readsOwl.cls ≠ "java/lang/invoke/VarHandle" ∧ (parseMethodDescriptor yX3_readsOwl.desc).map (fun d => d.parameters.length) = some 0 := by decide +kernel
def tj_X3_readsOwl_44 (M : MS) (s1 : Int32) (Q : Int32 → MS → Prop) : Prop :=
  (∀ M44 : MS, M44 = ms_s M 15 s1 → Q (if (M44.1 15) = (-1) then 0 else 1) M44)
theorem tb_X3_readsOwl_44 {l : Launch} {p : Program} {e : Env} {s : State} {m : MethodId} {args : Array Value} {below : List Frame} {meth : Method} {c : Code} {D : va_G} {g : Nat → Nat} {cI cJ : ClassId} (C : gx_C p s m args meth c cX3_readsOwl 1 (some .boolean) RX3) (hK : va_K D gcl [(cI, .int), (cJ, .long)] s) {M : MS} {s1 : Int32} {Q : Int32 → MS → Prop} (h : tj_X3_readsOwl_44 M s1 Q)  : gx_W p l e (headSpec (ws_ yX3_readsOwl cX3_readsOwl 1 (some .boolean)) rmX3_readsOwl).room s m args below meth c 1 (tm_I D g cI cJ s M) 0 0 (MQ below (va_Qi Q (tm_B D g cI cJ s.heap.size) (tm_A g s.heap.size)) args s 0 0 (tm_A g s.heap.size)) 44 [(0, .ref (g 0))] [.int s1, .ref (g 0)] := by
  unfold tj_X3_readsOwl_44 at h
  refine tm_put15 C hK q2315 dX3_readsOwl_44 (fun M44 e_M44 => ?_)
  replace h := h M44 e_M44
  refine gx_aload_n C dX3_readsOwl_47 rfl 0 rfl ?_
  refine tm_get C hK 15 (by decide) q2315 rfl rfl dX3_readsOwl_48 ?_
  refine gx_iconst (v := (-1)) C dX3_readsOwl_51 (by decide) ?_
  refine gx_phii (t := (if (M44.1 15) = (-1) then 0 else 1)) (pc2 := 60) (lv2 := [(0, .ref (g 0))]) (rest2 := []) (fun key => ?_) ?_
  · refine gx_icmp_eq (tgt := 59) C dX3_readsOwl_52 (by decide) (fun z1 => ?_) (fun z1 => ?_)
    · refine gx_iconst (v := 0) C dX3_readsOwl_59 (by decide) ?_
      exact gx_casti (if_pos z1) key
    · refine gx_iconst (v := 1) C dX3_readsOwl_55 (by decide) ?_
      refine gx_goto (tgt := 60) C dX3_readsOwl_56 (by decide) ?_
      exact gx_casti (if_neg z1) key
  exact tm_zret C hK (by repeat' (first | rfl | split)) h dX3_readsOwl_60
def tw_X3_readsOwl (M : MS) (Q : Int32 → MS → Prop) : Prop :=
  tw_X3_readsNumber M 0 9 (fun r4 M4 => ((r4 = 0 → Q 0 M4) ∧ (¬ (r4 = 0) → tw_X3_accepts M4 102 102 (fun r18 M18 => ((r18 = 0 → tw_X3_accepts M18 109 109 (fun r33 M33 => tj_X3_readsOwl_44 M33 ((if r33 = 0 then (-1) else 1)) Q)) ∧ (¬ (r18 = 0) → tj_X3_readsOwl_44 M18 0 Q))))))
theorem tk_X3_readsOwl {l : Launch} {D : va_G} {g : Nat → Nat} {cI cJ : ClassId} {sz : Nat} {M : MS} {Q : Int32 → MS → Prop} (h : tw_X3_readsOwl M Q) : tm_Met l yX3_readsOwl cX3_readsOwl 1 (some .boolean) rmX3_readsOwl [] D g cI cJ sz M (va_Qi Q (tm_B D g cI cJ sz) (tm_A g sz)) := by
  refine tm_entry (by decide) (Nat.le_of_ble_eq_true rfl) (fun p e s m args below meth c hsz C hK => ?_)
  subst hsz
  unfold tw_X3_readsOwl at h
  show gx_W p l e (headSpec (ws_ yX3_readsOwl cX3_readsOwl 1 (some .boolean)) rmX3_readsOwl).room s m args below meth c 1 (tm_I D g cI cJ s M) 0 0 (MQ below (va_Qi Q (tm_B D g cI cJ s.heap.size) (tm_A g s.heap.size)) args s 0 0 (tm_A g s.heap.size)) 0 [(0, .ref (g 0))] []
  refine gx_aload_n C dX3_readsOwl_0 rfl 0 rfl ?_
  refine gx_iconst (v := 0) C dX3_readsOwl_1 (by decide) ?_
  refine gx_bipush (v := 9) C dX3_readsOwl_2 (by decide) ?_
  refine tm_calli (rest := []) C hK (fun sz => tk_X3_readsNumber h) (cwV 2 C.t (lw_V q2910 q2912 qs112 q130 q2913) rfl rfl rfl ⟨rfl, dmX3_readsNumber⟩ ⟨Nat.le_of_ble_eq_true rfl, Nat.le_of_ble_eq_true rfl⟩) rfl rfl (Nat.le_of_ble_eq_true rfl) dX3_readsOwl_4 (fun r4 M4 h => ?_)
  refine gx_if_ne (tgt := 12) C dX3_readsOwl_7 (by decide) (fun z => ?_) (fun z => ?_)
  · replace h := h.2 z
    refine gx_aload_n C dX3_readsOwl_12 rfl 0 rfl ?_
    refine gx_aload_n C dX3_readsOwl_13 rfl 0 rfl ?_
    refine gx_bipush (v := 102) C dX3_readsOwl_14 (by decide) ?_
    refine gx_bipush (v := 102) C dX3_readsOwl_16 (by decide) ?_
    refine tm_calli (rest := [.ref (g 0)]) C hK (fun sz => tk_X3_accepts h) (cwV 2 C.t (lw_V q2914 q2916 qs113 q130 q2917) rfl rfl rfl ⟨rfl, dmX3_accepts⟩ ⟨Nat.le_of_ble_eq_true rfl, Nat.le_of_ble_eq_true rfl⟩) rfl rfl (Nat.le_of_ble_eq_true rfl) dX3_readsOwl_18 (fun r18 M18 h => ?_)
    refine gx_if_eq (tgt := 28) C dX3_readsOwl_21 (by decide) (fun z => ?_) (fun z => ?_)
    · replace h := h.1 z
      refine gx_aload_n C dX3_readsOwl_28 rfl 0 rfl ?_
      refine gx_bipush (v := 109) C dX3_readsOwl_29 (by decide) ?_
      refine gx_bipush (v := 109) C dX3_readsOwl_31 (by decide) ?_
      refine tm_calli (rest := [.ref (g 0)]) C hK (fun sz => tk_X3_accepts h) (cwV 2 C.t (lw_V q2914 q2916 qs113 q130 q2917) rfl rfl rfl ⟨rfl, dmX3_accepts⟩ ⟨Nat.le_of_ble_eq_true rfl, Nat.le_of_ble_eq_true rfl⟩) rfl rfl (Nat.le_of_ble_eq_true rfl) dX3_readsOwl_33 (fun r33 M33 h => ?_)
      refine gx_phii (t := (if r33 = 0 then (-1) else 1)) (pc2 := 44) (lv2 := [(0, .ref (g 0))]) (rest2 := [.ref (g 0)]) (fun key => ?_) ?_
      · refine gx_if_eq (tgt := 43) C dX3_readsOwl_36 (by decide) (fun z1 => ?_) (fun z1 => ?_)
        · refine gx_iconst (v := (-1)) C dX3_readsOwl_43 (by decide) ?_
          exact gx_casti (if_pos z1) key
        · refine gx_iconst (v := 1) C dX3_readsOwl_39 (by decide) ?_
          refine gx_goto (tgt := 44) C dX3_readsOwl_40 (by decide) ?_
          exact gx_casti (if_neg z1) key
      exact tb_X3_readsOwl_44 C hK h
    · replace h := h.2 z
      refine gx_iconst (v := 0) C dX3_readsOwl_24 (by decide) ?_
      refine gx_goto (tgt := 44) C dX3_readsOwl_25 (by decide) ?_
      exact tb_X3_readsOwl_44 C hK h
  · replace h := h.1 z
    refine gx_iconst (v := 0) C dX3_readsOwl_10 (by decide) ?_
    exact tm_zret C hK rfl h dX3_readsOwl_11
/-! readsWork()Z -/
abbrev rmX3_readsWork : Room := { frames := 4, cells := 0, slots := 0, locals := 87 }
theorem dmX3_readsWork : yX3_readsWork.cls ≠ "java/lang/invoke/MethodHandle" ∧ yX3_readsWork.cls ≠ "java/lang/invoke/VarHandle" ∧ (parseMethodDescriptor yX3_readsWork.desc).map (fun d => d.parameters.length) = some 0 := by decide +kernel
def tj_X3_readsWork_145 (M : MS) (s0 : Int32) (Q : Int32 → MS → Prop) : Prop :=
  (narrow .boolean (.int s0) = .int s0 ∧ Q s0 M)
theorem tb_X3_readsWork_145 {l : Launch} {p : Program} {e : Env} {s : State} {m : MethodId} {args : Array Value} {below : List Frame} {meth : Method} {c : Code} {D : va_G} {g : Nat → Nat} {cI cJ : ClassId} (C : gx_C p s m args meth c cX3_readsWork 1 (some .boolean) RX3) (hK : va_K D gcl [(cI, .int), (cJ, .long)] s) {M : MS} {s0 : Int32} {Q : Int32 → MS → Prop} (h : tj_X3_readsWork_145 M s0 Q)  : gx_W p l e (headSpec (ws_ yX3_readsWork cX3_readsWork 1 (some .boolean)) rmX3_readsWork).room s m args below meth c 1 (tm_I D g cI cJ s M) 0 0 (MQ below (va_Qi Q (tm_B D g cI cJ s.heap.size) (tm_A g s.heap.size)) args s 0 0 (tm_A g s.heap.size)) 145 [] [.int s0] := by
  unfold tj_X3_readsWork_145 at h
  obtain ⟨g145, h⟩ := h
  exact tm_zret C hK g145 h dX3_readsWork_145
def tj_X3_readsWork_93 (M : MS) (Q : Int32 → MS → Prop) : Prop :=
  (∀ M100 : MS, M100 = ms_s M 12 ((M.1 12) + 1) → (((M100.1 14) = 121 → tw_X3_readsNumber M100 1 20 (fun r116 M116 => tj_X3_readsWork_145 M116 r116 Q)) ∧ (¬ (M100.1 14) = 121 → (((M100.1 14) = 111 → tw_X3_readsOwl M100 (fun r132 M132 => tj_X3_readsWork_145 M132 r132 Q)) ∧ (¬ (M100.1 14) = 111 → tw_X3_readsNumber M100 0 63 (fun r142 M142 => tj_X3_readsWork_145 M142 r142 Q))))))
theorem tb_X3_readsWork_93 {l : Launch} {p : Program} {e : Env} {s : State} {m : MethodId} {args : Array Value} {below : List Frame} {meth : Method} {c : Code} {D : va_G} {g : Nat → Nat} {cI cJ : ClassId} (C : gx_C p s m args meth c cX3_readsWork 1 (some .boolean) RX3) (hK : va_K D gcl [(cI, .int), (cJ, .long)] s) {M : MS} {Q : Int32 → MS → Prop} (h : tj_X3_readsWork_93 M Q)  : gx_W p l e (headSpec (ws_ yX3_readsWork cX3_readsWork 1 (some .boolean)) rmX3_readsWork).room s m args below meth c 1 (tm_I D g cI cJ s M) 0 0 (MQ below (va_Qi Q (tm_B D g cI cJ s.heap.size) (tm_A g s.heap.size)) args s 0 0 (tm_A g s.heap.size)) 93 [(0, .ref (g 0))] [] := by
  unfold tj_X3_readsWork_93 at h
  refine gx_aload_n C dX3_readsWork_93 rfl 0 rfl ?_
  refine gx_dup C dX3_readsWork_94 rfl ?_
  refine tm_get C hK 12 (by decide) q2312 rfl rfl dX3_readsWork_95 ?_
  refine gx_iconst (v := 1) C dX3_readsWork_98 (by decide) ?_
  refine gx_iadd C dX3_readsWork_99 ?_
  refine tm_put12 C hK q2312 dX3_readsWork_100 (fun M100 e_M100 => ?_)
  replace h := h M100 e_M100
  refine gx_aload_n C dX3_readsWork_103 rfl 0 rfl ?_
  refine tm_get C hK 14 (by decide) q2314 rfl rfl dX3_readsWork_104 ?_
  refine gx_bipush (v := 121) C dX3_readsWork_107 (by decide) ?_
  refine gx_icmp_ne (tgt := 122) C dX3_readsWork_109 (by decide) (fun z => ?_) (fun z => ?_)
  · replace h := h.2 z
    refine gx_aload_n C dX3_readsWork_122 rfl 0 rfl ?_
    refine tm_get C hK 14 (by decide) q2314 rfl rfl dX3_readsWork_123 ?_
    refine gx_bipush (v := 111) C dX3_readsWork_126 (by decide) ?_
    refine gx_icmp_ne (tgt := 138) C dX3_readsWork_128 (by decide) (fun z => ?_) (fun z => ?_)
    · replace h := h.2 z
      refine gx_aload_n C dX3_readsWork_138 rfl 0 rfl ?_
      refine gx_iconst (v := 0) C dX3_readsWork_139 (by decide) ?_
      refine gx_bipush (v := 63) C dX3_readsWork_140 (by decide) ?_
      refine tm_calli (rest := []) C hK (fun sz => tk_X3_readsNumber h) (cwV 2 C.t (lw_V q2910 q2912 qs112 q130 q2913) rfl rfl rfl ⟨rfl, dmX3_readsNumber⟩ ⟨Nat.le_of_ble_eq_true rfl, Nat.le_of_ble_eq_true rfl⟩) rfl rfl (Nat.le_of_ble_eq_true rfl) dX3_readsWork_142 (fun r142 M142 h => ?_)
      refine gx_sub [] rfl ?_
      exact tb_X3_readsWork_145 C hK h
    · replace h := h.1 z
      refine gx_aload_n C dX3_readsWork_131 rfl 0 rfl ?_
      refine tm_calli (rest := []) C hK (fun sz => tk_X3_readsOwl h) (cwV 0 C.t (lw_V q2918 q2920 qs114 q130 q2921) rfl rfl rfl ⟨rfl, dmX3_readsOwl⟩ ⟨Nat.le_of_ble_eq_true rfl, Nat.le_of_ble_eq_true rfl⟩) rfl rfl (Nat.le_of_ble_eq_true rfl) dX3_readsWork_132 (fun r132 M132 h => ?_)
      refine gx_goto (tgt := 145) C dX3_readsWork_135 (by decide) ?_
      refine gx_sub [] rfl ?_
      exact tb_X3_readsWork_145 C hK h
  · replace h := h.1 z
    refine gx_aload_n C dX3_readsWork_112 rfl 0 rfl ?_
    refine gx_iconst (v := 1) C dX3_readsWork_113 (by decide) ?_
    refine gx_bipush (v := 20) C dX3_readsWork_114 (by decide) ?_
    refine tm_calli (rest := []) C hK (fun sz => tk_X3_readsNumber h) (cwV 2 C.t (lw_V q2910 q2912 qs112 q130 q2913) rfl rfl rfl ⟨rfl, dmX3_readsNumber⟩ ⟨Nat.le_of_ble_eq_true rfl, Nat.le_of_ble_eq_true rfl⟩) rfl rfl (Nat.le_of_ble_eq_true rfl) dX3_readsWork_116 (fun r116 M116 h => ?_)
    refine gx_goto (tgt := 145) C dX3_readsWork_119 (by decide) ?_
    refine gx_sub [] rfl ?_
    exact tb_X3_readsWork_145 C hK h
def tj_X3_readsWork_25 (M : MS) (s1 : Int32) (Q : Int32 → MS → Prop) : Prop :=
  (∀ M25 : MS, M25 = ms_s M 14 s1 → (((M25.1 14) = 121 → tj_X3_readsWork_93 M25 Q) ∧ (¬ (M25.1 14) = 121 → (((M25.1 14) = 98 → tj_X3_readsWork_93 M25 Q) ∧ (¬ (M25.1 14) = 98 → (((M25.1 14) = 102 → tj_X3_readsWork_93 M25 Q) ∧ (¬ (M25.1 14) = 102 → (((M25.1 14) = 119 → tj_X3_readsWork_93 M25 Q) ∧ (¬ (M25.1 14) = 119 → (((M25.1 14) = 109 → tj_X3_readsWork_93 M25 Q) ∧ (¬ (M25.1 14) = 109 → (((M25.1 14) = 114 → tj_X3_readsWork_93 M25 Q) ∧ (¬ (M25.1 14) = 114 → (((M25.1 14) = 111 → tj_X3_readsWork_93 M25 Q) ∧ (¬ (M25.1 14) = 111 → Q 0 M25)))))))))))))))
theorem tb_X3_readsWork_25 {l : Launch} {p : Program} {e : Env} {s : State} {m : MethodId} {args : Array Value} {below : List Frame} {meth : Method} {c : Code} {D : va_G} {g : Nat → Nat} {cI cJ : ClassId} (C : gx_C p s m args meth c cX3_readsWork 1 (some .boolean) RX3) (hK : va_K D gcl [(cI, .int), (cJ, .long)] s) {M : MS} {s1 : Int32} {Q : Int32 → MS → Prop} (h : tj_X3_readsWork_25 M s1 Q)  : gx_W p l e (headSpec (ws_ yX3_readsWork cX3_readsWork 1 (some .boolean)) rmX3_readsWork).room s m args below meth c 1 (tm_I D g cI cJ s M) 0 0 (MQ below (va_Qi Q (tm_B D g cI cJ s.heap.size) (tm_A g s.heap.size)) args s 0 0 (tm_A g s.heap.size)) 25 [(0, .ref (g 0))] [.int s1, .ref (g 0)] := by
  unfold tj_X3_readsWork_25 at h
  refine tm_put14 C hK q2314 dX3_readsWork_25 (fun M25 e_M25 => ?_)
  replace h := h M25 e_M25
  refine gx_aload_n C dX3_readsWork_28 rfl 0 rfl ?_
  refine tm_get C hK 14 (by decide) q2314 rfl rfl dX3_readsWork_29 ?_
  refine gx_bipush (v := 121) C dX3_readsWork_32 (by decide) ?_
  refine gx_icmp_eq (tgt := 93) C dX3_readsWork_34 (by decide) (fun z => ?_) (fun z => ?_)
  · replace h := h.1 z
    exact tb_X3_readsWork_93 C hK h
  · replace h := h.2 z
    refine gx_aload_n C dX3_readsWork_37 rfl 0 rfl ?_
    refine tm_get C hK 14 (by decide) q2314 rfl rfl dX3_readsWork_38 ?_
    refine gx_bipush (v := 98) C dX3_readsWork_41 (by decide) ?_
    refine gx_icmp_eq (tgt := 93) C dX3_readsWork_43 (by decide) (fun z => ?_) (fun z => ?_)
    · replace h := h.1 z
      exact tb_X3_readsWork_93 C hK h
    · replace h := h.2 z
      refine gx_aload_n C dX3_readsWork_46 rfl 0 rfl ?_
      refine tm_get C hK 14 (by decide) q2314 rfl rfl dX3_readsWork_47 ?_
      refine gx_bipush (v := 102) C dX3_readsWork_50 (by decide) ?_
      refine gx_icmp_eq (tgt := 93) C dX3_readsWork_52 (by decide) (fun z => ?_) (fun z => ?_)
      · replace h := h.1 z
        exact tb_X3_readsWork_93 C hK h
      · replace h := h.2 z
        refine gx_aload_n C dX3_readsWork_55 rfl 0 rfl ?_
        refine tm_get C hK 14 (by decide) q2314 rfl rfl dX3_readsWork_56 ?_
        refine gx_bipush (v := 119) C dX3_readsWork_59 (by decide) ?_
        refine gx_icmp_eq (tgt := 93) C dX3_readsWork_61 (by decide) (fun z => ?_) (fun z => ?_)
        · replace h := h.1 z
          exact tb_X3_readsWork_93 C hK h
        · replace h := h.2 z
          refine gx_aload_n C dX3_readsWork_64 rfl 0 rfl ?_
          refine tm_get C hK 14 (by decide) q2314 rfl rfl dX3_readsWork_65 ?_
          refine gx_bipush (v := 109) C dX3_readsWork_68 (by decide) ?_
          refine gx_icmp_eq (tgt := 93) C dX3_readsWork_70 (by decide) (fun z => ?_) (fun z => ?_)
          · replace h := h.1 z
            exact tb_X3_readsWork_93 C hK h
          · replace h := h.2 z
            refine gx_aload_n C dX3_readsWork_73 rfl 0 rfl ?_
            refine tm_get C hK 14 (by decide) q2314 rfl rfl dX3_readsWork_74 ?_
            refine gx_bipush (v := 114) C dX3_readsWork_77 (by decide) ?_
            refine gx_icmp_eq (tgt := 93) C dX3_readsWork_79 (by decide) (fun z => ?_) (fun z => ?_)
            · replace h := h.1 z
              exact tb_X3_readsWork_93 C hK h
            · replace h := h.2 z
              refine gx_aload_n C dX3_readsWork_82 rfl 0 rfl ?_
              refine tm_get C hK 14 (by decide) q2314 rfl rfl dX3_readsWork_83 ?_
              refine gx_bipush (v := 111) C dX3_readsWork_86 (by decide) ?_
              refine gx_icmp_eq (tgt := 93) C dX3_readsWork_88 (by decide) (fun z => ?_) (fun z => ?_)
              · replace h := h.1 z
                exact tb_X3_readsWork_93 C hK h
              · replace h := h.2 z
                refine gx_iconst (v := 0) C dX3_readsWork_91 (by decide) ?_
                exact tm_zret C hK rfl h dX3_readsWork_92
def tw_X3_readsWork (M : MS) (Q : Int32 → MS → Prop) : Prop :=
  (((M.1 11) ≤ (M.1 12) → tj_X3_readsWork_25 M (-1) Q) ∧ (¬ (M.1 11) ≤ (M.1 12) → (vp_in (M.1 12) 60 ∧ tj_X3_readsWork_25 M (ms_r M 6 (M.1 12)) Q)))
theorem tk_X3_readsWork {l : Launch} {D : va_G} {g : Nat → Nat} {cI cJ : ClassId} {sz : Nat} {M : MS} {Q : Int32 → MS → Prop} (h : tw_X3_readsWork M Q) : tm_Met l yX3_readsWork cX3_readsWork 1 (some .boolean) rmX3_readsWork [] D g cI cJ sz M (va_Qi Q (tm_B D g cI cJ sz) (tm_A g sz)) := by
  refine tm_entry (by decide) (Nat.le_of_ble_eq_true rfl) (fun p e s m args below meth c hsz C hK => ?_)
  subst hsz
  unfold tw_X3_readsWork at h
  show gx_W p l e (headSpec (ws_ yX3_readsWork cX3_readsWork 1 (some .boolean)) rmX3_readsWork).room s m args below meth c 1 (tm_I D g cI cJ s M) 0 0 (MQ below (va_Qi Q (tm_B D g cI cJ s.heap.size) (tm_A g s.heap.size)) args s 0 0 (tm_A g s.heap.size)) 0 [(0, .ref (g 0))] []
  refine gx_aload_n C dX3_readsWork_0 rfl 0 rfl ?_
  refine gx_aload_n C dX3_readsWork_1 rfl 0 rfl ?_
  refine tm_get C hK 12 (by decide) q2312 rfl rfl dX3_readsWork_2 ?_
  refine gx_aload_n C dX3_readsWork_5 rfl 0 rfl ?_
  refine tm_get C hK 11 (by decide) q2311 rfl rfl dX3_readsWork_6 ?_
  refine gx_icmp_ge (tgt := 24) C dX3_readsWork_9 (by decide) (fun z => ?_) (fun z => ?_)
  · replace h := h.1 z
    refine gx_iconst (v := (-1)) C dX3_readsWork_24 (by decide) ?_
    exact tb_X3_readsWork_25 C hK h
  · replace h := h.2 z
    refine gx_aload_n C dX3_readsWork_12 rfl 0 rfl ?_
    refine tm_get C hK 10 (by decide) q2310 rfl rfl dX3_readsWork_13 ?_
    refine gx_aload_n C dX3_readsWork_16 rfl 0 rfl ?_
    refine tm_get C hK 12 (by decide) q2312 rfl rfl dX3_readsWork_17 ?_
    obtain ⟨g20, h⟩ := h
    refine tm_ald6 C hK g20 dX3_readsWork_20 ?_
    refine gx_goto (tgt := 25) C dX3_readsWork_21 (by decide) ?_
    exact tb_X3_readsWork_25 C hK h
/-! findError()I -/
abbrev rmX3_findError : Room := { frames := 5, cells := 0, slots := 0, locals := 107 }
theorem dmX3_findError : yX3_findError.cls ≠ "java/lang/invoke/MethodHandle" ∧ yX3_findError.cls ≠ "java/lang/invoke/VarHandle" ∧ (parseMethodDescriptor yX3_findError.desc).map (fun d => d.parameters.length) = some 0 := by decide +kernel
def tj_X3_findError_5 (M : MS) (k5 : MS → Prop) (Q : Int32 → MS → Prop) : Prop :=
  tw_X3_readsWork M (fun r6 M6 => ((r6 = 0 → Q (M6.1 12) M6) ∧ (¬ (r6 = 0) → (((M6.1 12) = (M6.1 11) → Q (-1) M6) ∧ (¬ (M6.1 12) = (M6.1 11) → (vp_in (M6.1 12) 60 ∧ (((ms_r M6 6 (M6.1 12)) = 59 → (∀ M56 : MS, M56 = ms_s M6 12 ((M6.1 12) + 1) → k5 M56)) ∧ (¬ (ms_r M6 6 (M6.1 12)) = 59 → Q (M6.1 12) M6))))))))
theorem tb_X3_findError_5 {l : Launch} {p : Program} {e : Env} {s : State} {m : MethodId} {args : Array Value} {below : List Frame} {meth : Method} {c : Code} {D : va_G} {g : Nat → Nat} {cI cJ : ClassId} (C : gx_C p s m args meth c cX3_findError 1 (some .int) RX3) (hK : va_K D gcl [(cI, .int), (cJ, .long)] s) {M : MS} {k5 : MS → Prop} {Q : Int32 → MS → Prop} (h : tj_X3_findError_5 M k5 Q) (hk5 : ∀ (M : MS), k5 M → gx_W p l e (headSpec (ws_ yX3_findError cX3_findError 1 (some .int)) rmX3_findError).room s m args below meth c 1 (tm_I D g cI cJ s M) 0 0 (MQ below (va_Qi Q (tm_B D g cI cJ s.heap.size) (tm_A g s.heap.size)) args s 0 0 (tm_A g s.heap.size)) 5 [(0, .ref (g 0))] []) : gx_W p l e (headSpec (ws_ yX3_findError cX3_findError 1 (some .int)) rmX3_findError).room s m args below meth c 1 (tm_I D g cI cJ s M) 0 0 (MQ below (va_Qi Q (tm_B D g cI cJ s.heap.size) (tm_A g s.heap.size)) args s 0 0 (tm_A g s.heap.size)) 5 [(0, .ref (g 0))] [] := by
  unfold tj_X3_findError_5 at h
  refine gx_aload_n C dX3_findError_5 rfl 0 rfl ?_
  refine tm_calli (rest := []) C hK (fun sz => tk_X3_readsWork h) (cwV 0 C.t (lw_V q2906 q2908 qs111 q130 q2909) rfl rfl rfl ⟨rfl, dmX3_readsWork⟩ ⟨Nat.le_of_ble_eq_true rfl, Nat.le_of_ble_eq_true rfl⟩) rfl rfl (Nat.le_of_ble_eq_true rfl) dX3_findError_6 (fun r6 M6 h => ?_)
  refine gx_if_ne (tgt := 17) C dX3_findError_9 (by decide) (fun z => ?_) (fun z => ?_)
  · replace h := h.2 z
    refine gx_aload_n C dX3_findError_17 rfl 0 rfl ?_
    refine tm_get C hK 12 (by decide) q2312 rfl rfl dX3_findError_18 ?_
    refine gx_aload_n C dX3_findError_21 rfl 0 rfl ?_
    refine tm_get C hK 11 (by decide) q2311 rfl rfl dX3_findError_22 ?_
    refine gx_icmp_ne (tgt := 30) C dX3_findError_25 (by decide) (fun z => ?_) (fun z => ?_)
    · replace h := h.2 z
      refine gx_aload_n C dX3_findError_30 rfl 0 rfl ?_
      refine tm_get C hK 10 (by decide) q2310 rfl rfl dX3_findError_31 ?_
      refine gx_aload_n C dX3_findError_34 rfl 0 rfl ?_
      refine tm_get C hK 12 (by decide) q2312 rfl rfl dX3_findError_35 ?_
      obtain ⟨g38, h⟩ := h
      refine tm_ald6 C hK g38 dX3_findError_38 ?_
      refine gx_bipush (v := 59) C dX3_findError_39 (by decide) ?_
      refine gx_icmp_eq (tgt := 49) C dX3_findError_41 (by decide) (fun z => ?_) (fun z => ?_)
      · replace h := h.1 z
        refine gx_aload_n C dX3_findError_49 rfl 0 rfl ?_
        refine gx_dup C dX3_findError_50 rfl ?_
        refine tm_get C hK 12 (by decide) q2312 rfl rfl dX3_findError_51 ?_
        refine gx_iconst (v := 1) C dX3_findError_54 (by decide) ?_
        refine gx_iadd C dX3_findError_55 ?_
        refine tm_put12 C hK q2312 dX3_findError_56 (fun M56 e_M56 => ?_)
        replace h := h M56 e_M56
        refine gx_goto (tgt := 5) C dX3_findError_59 (by decide) ?_
        exact hk5 M56 h
      · replace h := h.2 z
        refine gx_aload_n C dX3_findError_44 rfl 0 rfl ?_
        refine tm_get C hK 12 (by decide) q2312 rfl rfl dX3_findError_45 ?_
        exact tm_iret C hK h dX3_findError_48
    · replace h := h.1 z
      refine gx_iconst (v := (-1)) C dX3_findError_28 (by decide) ?_
      exact tm_iret C hK h dX3_findError_29
  · replace h := h.1 z
    refine gx_aload_n C dX3_findError_12 rfl 0 rfl ?_
    refine tm_get C hK 12 (by decide) q2312 rfl rfl dX3_findError_13 ?_
    exact tm_iret C hK h dX3_findError_16
def tl_X3_findError_5 (Q : Int32 → MS → Prop) : Nat → MS → Prop
  | 0, _ => False
  | n + 1, M => tj_X3_findError_5 M (fun M => tl_X3_findError_5 Q n M) Q
theorem te_X3_findError_5 {l : Launch} {p : Program} {e : Env} {s : State} {m : MethodId} {args : Array Value} {below : List Frame} {meth : Method} {c : Code} {D : va_G} {g : Nat → Nat} {cI cJ : ClassId} (C : gx_C p s m args meth c cX3_findError 1 (some .int) RX3) (hK : va_K D gcl [(cI, .int), (cJ, .long)] s) {Q : Int32 → MS → Prop}  (n : Nat) : ∀ (M : MS), tl_X3_findError_5 Q n M → gx_W p l e (headSpec (ws_ yX3_findError cX3_findError 1 (some .int)) rmX3_findError).room s m args below meth c 1 (tm_I D g cI cJ s M) 0 0 (MQ below (va_Qi Q (tm_B D g cI cJ s.heap.size) (tm_A g s.heap.size)) args s 0 0 (tm_A g s.heap.size)) 5 [(0, .ref (g 0))] [] := by
  induction n with
  | zero => intro M h; exact False.elim h
  | succ n ih => intro M h; exact tb_X3_findError_5 C hK (show tj_X3_findError_5 M (fun M => tl_X3_findError_5 Q n M) Q from h) (fun M h => ih M h)
def tw_X3_findError (M : MS) (Q : Int32 → MS → Prop) : Prop :=
  (∀ M2 : MS, M2 = ms_s M 12 0 → ∃ n : Nat, tl_X3_findError_5 Q n M2)
theorem tk_X3_findError {l : Launch} {D : va_G} {g : Nat → Nat} {cI cJ : ClassId} {sz : Nat} {M : MS} {Q : Int32 → MS → Prop} (h : tw_X3_findError M Q) : tm_Met l yX3_findError cX3_findError 1 (some .int) rmX3_findError [] D g cI cJ sz M (va_Qi Q (tm_B D g cI cJ sz) (tm_A g sz)) := by
  refine tm_entry (by decide) (Nat.le_of_ble_eq_true rfl) (fun p e s m args below meth c hsz C hK => ?_)
  subst hsz
  unfold tw_X3_findError at h
  show gx_W p l e (headSpec (ws_ yX3_findError cX3_findError 1 (some .int)) rmX3_findError).room s m args below meth c 1 (tm_I D g cI cJ s M) 0 0 (MQ below (va_Qi Q (tm_B D g cI cJ s.heap.size) (tm_A g s.heap.size)) args s 0 0 (tm_A g s.heap.size)) 0 [(0, .ref (g 0))] []
  refine gx_aload_n C dX3_findError_0 rfl 0 rfl ?_
  refine gx_iconst (v := 0) C dX3_findError_1 (by decide) ?_
  refine tm_put12 C hK q2312 dX3_findError_2 (fun M2 e_M2 => ?_)
  replace h := h M2 e_M2
  obtain ⟨n, h⟩ := h
  exact te_X3_findError_5 C hK n M2 h
/-! firstError()I -/
abbrev rmX3_firstError : Room := { frames := 6, cells := 0, slots := 0, locals := 127 }
theorem dmX3_firstError : yX3_firstError.cls ≠ "java/lang/invoke/MethodHandle" ∧ yX3_firstError.cls ≠ "java/lang/invoke/VarHandle" ∧ (parseMethodDescriptor yX3_firstError.desc).map (fun d => d.parameters.length) = some 0 := by decide +kernel
def tw_X3_firstError (M : MS) (Q : Int32 → MS → Prop) : Prop :=
  (∀ M2 : MS, M2 = ms_s M 0 0 → tw_X3_findError M2 (fun r6 M6 => Q r6 M6))
theorem tk_X3_firstError {l : Launch} {D : va_G} {g : Nat → Nat} {cI cJ : ClassId} {sz : Nat} {M : MS} {Q : Int32 → MS → Prop} (h : tw_X3_firstError M Q) : tm_Met l yX3_firstError cX3_firstError 1 (some .int) rmX3_firstError [] D g cI cJ sz M (va_Qi Q (tm_B D g cI cJ sz) (tm_A g sz)) := by
  refine tm_entry (by decide) (Nat.le_of_ble_eq_true rfl) (fun p e s m args below meth c hsz C hK => ?_)
  subst hsz
  unfold tw_X3_firstError at h
  show gx_W p l e (headSpec (ws_ yX3_firstError cX3_firstError 1 (some .int)) rmX3_firstError).room s m args below meth c 1 (tm_I D g cI cJ s M) 0 0 (MQ below (va_Qi Q (tm_B D g cI cJ s.heap.size) (tm_A g s.heap.size)) args s 0 0 (tm_A g s.heap.size)) 0 [(0, .ref (g 0))] []
  refine gx_aload_n C dX3_firstError_0 rfl 0 rfl ?_
  refine gx_iconst (v := 0) C dX3_firstError_1 (by decide) ?_
  refine tm_put0 C hK q2300 dX3_firstError_2 (fun M2 e_M2 => ?_)
  replace h := h M2 e_M2
  refine gx_aload_n C dX3_firstError_5 rfl 0 rfl ?_
  refine tm_calli (rest := []) C hK (fun sz => tk_X3_findError h) (cwV 0 C.t (lw_V q2902 q2904 qs110 q130 q2905) rfl rfl rfl ⟨rfl, dmX3_findError⟩ ⟨Nat.le_of_ble_eq_true rfl, Nat.le_of_ble_eq_true rfl⟩) rfl rfl (Nat.le_of_ble_eq_true rfl) dX3_firstError_6 (fun r6 M6 h => ?_)
  exact tm_iret C hK h dX3_firstError_9
/-! kindRead()I -/
abbrev rmX3_kindRead : Room := { frames := 0, cells := 0, slots := 0, locals := 0 }
theorem dmX3_kindRead : yX3_kindRead.cls ≠ "java/lang/invoke/MethodHandle" ∧ yX3_kindRead.cls ≠ "java/lang/invoke/VarHandle" ∧ (parseMethodDescriptor yX3_kindRead.desc).map (fun d => d.parameters.length) = some 0 := by decide +kernel
def tw_X3_kindRead (M : MS) (Q : Int32 → MS → Prop) : Prop :=
  Q (if (M.1 14) = 102 then 0 else (if (M.1 14) = 119 then 1 else (if (M.1 14) = 109 then 2 else 3))) M
theorem tk_X3_kindRead {l : Launch} {D : va_G} {g : Nat → Nat} {cI cJ : ClassId} {sz : Nat} {M : MS} {Q : Int32 → MS → Prop} (h : tw_X3_kindRead M Q) : tm_Met l yX3_kindRead cX3_kindRead 1 (some .int) rmX3_kindRead [] D g cI cJ sz M (va_Qi Q (tm_B D g cI cJ sz) (tm_A g sz)) := by
  refine tm_entry (by decide) (Nat.le_of_ble_eq_true rfl) (fun p e s m args below meth c hsz C hK => ?_)
  subst hsz
  unfold tw_X3_kindRead at h
  show gx_W p l e (headSpec (ws_ yX3_kindRead cX3_kindRead 1 (some .int)) rmX3_kindRead).room s m args below meth c 1 (tm_I D g cI cJ s M) 0 0 (MQ below (va_Qi Q (tm_B D g cI cJ s.heap.size) (tm_A g s.heap.size)) args s 0 0 (tm_A g s.heap.size)) 0 [(0, .ref (g 0))] []
  refine gx_aload_n C dX3_kindRead_0 rfl 0 rfl ?_
  refine tm_get C hK 14 (by decide) q2314 rfl rfl dX3_kindRead_1 ?_
  refine gx_bipush (v := 102) C dX3_kindRead_4 (by decide) ?_
  refine gx_phii (t := (if (M.1 14) = 102 then 0 else (if (M.1 14) = 119 then 1 else (if (M.1 14) = 109 then 2 else 3)))) (pc2 := 40) (lv2 := [(0, .ref (g 0))]) (rest2 := []) (fun key => ?_) ?_
  · refine gx_icmp_ne (tgt := 13) C dX3_kindRead_6 (by decide) (fun z1 => ?_) (fun z1 => ?_)
    · refine gx_aload_n C dX3_kindRead_13 rfl 0 rfl ?_
      refine tm_get C hK 14 (by decide) q2314 rfl rfl dX3_kindRead_14 ?_
      refine gx_bipush (v := 119) C dX3_kindRead_17 (by decide) ?_
      refine gx_icmp_ne (tgt := 26) C dX3_kindRead_19 (by decide) (fun z2 => ?_) (fun z2 => ?_)
      · refine gx_aload_n C dX3_kindRead_26 rfl 0 rfl ?_
        refine tm_get C hK 14 (by decide) q2314 rfl rfl dX3_kindRead_27 ?_
        refine gx_bipush (v := 109) C dX3_kindRead_30 (by decide) ?_
        refine gx_icmp_ne (tgt := 39) C dX3_kindRead_32 (by decide) (fun z3 => ?_) (fun z3 => ?_)
        · refine gx_iconst (v := 3) C dX3_kindRead_39 (by decide) ?_
          exact gx_casti ((if_neg z1).trans ((if_neg z2).trans (if_neg z3))) key
        · refine gx_iconst (v := 2) C dX3_kindRead_35 (by decide) ?_
          refine gx_goto (tgt := 40) C dX3_kindRead_36 (by decide) ?_
          exact gx_casti ((if_neg z1).trans ((if_neg z2).trans (if_pos z3))) key
      · refine gx_iconst (v := 1) C dX3_kindRead_22 (by decide) ?_
        refine gx_goto (tgt := 40) C dX3_kindRead_23 (by decide) ?_
        exact gx_casti ((if_neg z1).trans (if_pos z2)) key
    · refine gx_iconst (v := 0) C dX3_kindRead_9 (by decide) ?_
      refine gx_goto (tgt := 40) C dX3_kindRead_10 (by decide) ?_
      exact gx_casti (if_pos z1) key
  exact tm_iret C hK h dX3_kindRead_40
/-! canDo()Z -/
abbrev rmX3_canDo : Room := { frames := 3, cells := 0, slots := 0, locals := 68 }
theorem dmX3_canDo : yX3_canDo.cls ≠ "java/lang/invoke/MethodHandle" ∧ yX3_canDo.cls ≠ "java/lang/invoke/VarHandle" ∧ (parseMethodDescriptor yX3_canDo.desc).map (fun d => d.parameters.length) = some 0 := by decide +kernel
def tj_X3_canDo_117 (M : MS) (s0 : Int32) (Q : Int32 → MS → Prop) : Prop :=
  (narrow .boolean (.int s0) = .int s0 ∧ Q s0 M)
theorem tb_X3_canDo_117 {l : Launch} {p : Program} {e : Env} {s : State} {m : MethodId} {args : Array Value} {below : List Frame} {meth : Method} {c : Code} {D : va_G} {g : Nat → Nat} {cI cJ : ClassId} (C : gx_C p s m args meth c cX3_canDo 1 (some .boolean) RX3) (hK : va_K D gcl [(cI, .int), (cJ, .long)] s) {M : MS} {s0 : Int32} {Q : Int32 → MS → Prop} (h : tj_X3_canDo_117 M s0 Q)  : gx_W p l e (headSpec (ws_ yX3_canDo cX3_canDo 1 (some .boolean)) rmX3_canDo).room s m args below meth c 1 (tm_I D g cI cJ s M) 0 0 (MQ below (va_Qi Q (tm_B D g cI cJ s.heap.size) (tm_A g s.heap.size)) args s 0 0 (tm_A g s.heap.size)) 117 [] [.int s0] := by
  unfold tj_X3_canDo_117 at h
  obtain ⟨g117, h⟩ := h
  exact tm_zret C hK g117 h dX3_canDo_117
def tj_X3_canDo_101 (M : MS) (Q : Int32 → MS → Prop) : Prop :=
  tj_X3_canDo_117 M 0 Q
theorem tb_X3_canDo_101 {l : Launch} {p : Program} {e : Env} {s : State} {m : MethodId} {args : Array Value} {below : List Frame} {meth : Method} {c : Code} {D : va_G} {g : Nat → Nat} {cI cJ : ClassId} (C : gx_C p s m args meth c cX3_canDo 1 (some .boolean) RX3) (hK : va_K D gcl [(cI, .int), (cJ, .long)] s) {M : MS} {Q : Int32 → MS → Prop} (h : tj_X3_canDo_101 M Q)  : gx_W p l e (headSpec (ws_ yX3_canDo cX3_canDo 1 (some .boolean)) rmX3_canDo).room s m args below meth c 1 (tm_I D g cI cJ s M) 0 0 (MQ below (va_Qi Q (tm_B D g cI cJ s.heap.size) (tm_A g s.heap.size)) args s 0 0 (tm_A g s.heap.size)) 101 [] [] := by
  unfold tj_X3_canDo_101 at h
  refine gx_iconst (v := 0) C dX3_canDo_101 (by decide) ?_
  refine gx_goto (tgt := 117) C dX3_canDo_102 (by decide) ?_
  exact tb_X3_canDo_117 C hK h
def tw_X3_canDo (M : MS) (Q : Int32 → MS → Prop) : Prop :=
  (((M.1 14) = 121 → (vp_in 0 754 ∧ tj_X3_canDo_117 M ((if 999 < ((ms_r M 0 0) + (M.1 13)) then 0 else 1)) Q)) ∧ (¬ (M.1 14) = 121 → (((M.1 14) = 98 → tw_X3_whyNoBox M (M.1 13) (fun r48 M48 => tj_X3_canDo_117 M48 ((if r48 = 0 then 1 else 0)) Q)) ∧ (¬ (M.1 14) = 98 → (((M.1 14) = 111 → tw_X3_isBox M (M.1 13) (fun r76 M76 => ((r76 = 0 → tj_X3_canDo_101 M76 Q) ∧ (¬ (r76 = 0) → tw_X3_canLetIn M76 (M76.1 13) (M76.1 15) (fun r91 M91 => ((r91 = 0 → tj_X3_canDo_101 M91 Q) ∧ (¬ (r91 = 0) → tj_X3_canDo_117 M91 1 Q))))))) ∧ (¬ (M.1 14) = 111 → tw_X3_kindRead M (fun r111 M111 => tw_X3_canSetLand M111 (M.1 13) r111 (fun r114 M114 => tj_X3_canDo_117 M114 r114 Q))))))))
theorem tk_X3_canDo {l : Launch} {D : va_G} {g : Nat → Nat} {cI cJ : ClassId} {sz : Nat} {M : MS} {Q : Int32 → MS → Prop} (h : tw_X3_canDo M Q) : tm_Met l yX3_canDo cX3_canDo 1 (some .boolean) rmX3_canDo [] D g cI cJ sz M (va_Qi Q (tm_B D g cI cJ sz) (tm_A g sz)) := by
  refine tm_entry (by decide) (Nat.le_of_ble_eq_true rfl) (fun p e s m args below meth c hsz C hK => ?_)
  subst hsz
  unfold tw_X3_canDo at h
  show gx_W p l e (headSpec (ws_ yX3_canDo cX3_canDo 1 (some .boolean)) rmX3_canDo).room s m args below meth c 1 (tm_I D g cI cJ s M) 0 0 (MQ below (va_Qi Q (tm_B D g cI cJ s.heap.size) (tm_A g s.heap.size)) args s 0 0 (tm_A g s.heap.size)) 0 [(0, .ref (g 0))] []
  refine gx_aload_n C dX3_canDo_0 rfl 0 rfl ?_
  refine tm_get C hK 14 (by decide) q2314 rfl rfl dX3_canDo_1 ?_
  refine gx_bipush (v := 121) C dX3_canDo_4 (by decide) ?_
  refine gx_icmp_ne (tgt := 34) C dX3_canDo_6 (by decide) (fun z => ?_) (fun z => ?_)
  · replace h := h.2 z
    refine gx_aload_n C dX3_canDo_34 rfl 0 rfl ?_
    refine tm_get C hK 14 (by decide) q2314 rfl rfl dX3_canDo_35 ?_
    refine gx_bipush (v := 98) C dX3_canDo_38 (by decide) ?_
    refine gx_icmp_ne (tgt := 62) C dX3_canDo_40 (by decide) (fun z => ?_) (fun z => ?_)
    · replace h := h.2 z
      refine gx_aload_n C dX3_canDo_62 rfl 0 rfl ?_
      refine tm_get C hK 14 (by decide) q2314 rfl rfl dX3_canDo_63 ?_
      refine gx_bipush (v := 111) C dX3_canDo_66 (by decide) ?_
      refine gx_icmp_ne (tgt := 105) C dX3_canDo_68 (by decide) (fun z => ?_) (fun z => ?_)
      · replace h := h.2 z
        refine gx_aload_n C dX3_canDo_105 rfl 0 rfl ?_
        refine gx_aload_n C dX3_canDo_106 rfl 0 rfl ?_
        refine tm_get C hK 13 (by decide) q2313 rfl rfl dX3_canDo_107 ?_
        refine gx_aload_n C dX3_canDo_110 rfl 0 rfl ?_
        refine tm_calli (rest := [.int (M.1 13), .ref (g 0)]) C hK (fun sz => tk_X3_kindRead h) (cwV 0 C.t (lw_V q2930 q2932 qs116 q130 q2933) rfl rfl rfl ⟨rfl, dmX3_kindRead⟩ ⟨Nat.le_of_ble_eq_true rfl, Nat.le_of_ble_eq_true rfl⟩) rfl rfl (Nat.le_of_ble_eq_true rfl) dX3_canDo_111 (fun r111 M111 h => ?_)
        refine tm_calli (rest := []) C hK (fun sz => tk_X3_canSetLand h) (cwV 2 C.t (lw_V q2363 q2365 qs45 q130 q2366) rfl rfl rfl ⟨rfl, dmX3_canSetLand⟩ ⟨Nat.le_of_ble_eq_true rfl, Nat.le_of_ble_eq_true rfl⟩) rfl rfl (Nat.le_of_ble_eq_true rfl) dX3_canDo_114 (fun r114 M114 h => ?_)
        refine gx_sub [] rfl ?_
        exact tb_X3_canDo_117 C hK h
      · replace h := h.1 z
        refine gx_aload_n C dX3_canDo_71 rfl 0 rfl ?_
        refine gx_aload_n C dX3_canDo_72 rfl 0 rfl ?_
        refine tm_get C hK 13 (by decide) q2313 rfl rfl dX3_canDo_73 ?_
        refine tm_calli (rest := []) C hK (fun sz => tk_X3_isBox h) (cwV 1 C.t (lw_V q2423 q2425 qs54 q130 q2426) rfl rfl rfl ⟨rfl, dmX3_isBox⟩ ⟨Nat.le_of_ble_eq_true rfl, Nat.le_of_ble_eq_true rfl⟩) rfl rfl (Nat.le_of_ble_eq_true rfl) dX3_canDo_76 (fun r76 M76 h => ?_)
        refine gx_if_eq (tgt := 101) C dX3_canDo_79 (by decide) (fun z => ?_) (fun z => ?_)
        · replace h := h.1 z
          refine gx_sub [] rfl ?_
          exact tb_X3_canDo_101 C hK h
        · replace h := h.2 z
          refine gx_aload_n C dX3_canDo_82 rfl 0 rfl ?_
          refine gx_aload_n C dX3_canDo_83 rfl 0 rfl ?_
          refine tm_get C hK 13 (by decide) q2313 rfl rfl dX3_canDo_84 ?_
          refine gx_aload_n C dX3_canDo_87 rfl 0 rfl ?_
          refine tm_get C hK 15 (by decide) q2315 rfl rfl dX3_canDo_88 ?_
          refine tm_calli (rest := []) C hK (fun sz => tk_X3_canLetIn h) (cwV 2 C.t (lw_V q2450 q2452 qs59 q130 q2453) rfl rfl rfl ⟨rfl, dmX3_canLetIn⟩ ⟨Nat.le_of_ble_eq_true rfl, Nat.le_of_ble_eq_true rfl⟩) rfl rfl (Nat.le_of_ble_eq_true rfl) dX3_canDo_91 (fun r91 M91 h => ?_)
          refine gx_if_eq (tgt := 101) C dX3_canDo_94 (by decide) (fun z => ?_) (fun z => ?_)
          · replace h := h.1 z
            refine gx_sub [] rfl ?_
            exact tb_X3_canDo_101 C hK h
          · replace h := h.2 z
            refine gx_iconst (v := 1) C dX3_canDo_97 (by decide) ?_
            refine gx_goto (tgt := 117) C dX3_canDo_98 (by decide) ?_
            refine gx_sub [] rfl ?_
            exact tb_X3_canDo_117 C hK h
    · replace h := h.1 z
      refine gx_aload_n C dX3_canDo_43 rfl 0 rfl ?_
      refine gx_aload_n C dX3_canDo_44 rfl 0 rfl ?_
      refine tm_get C hK 13 (by decide) q2313 rfl rfl dX3_canDo_45 ?_
      refine tm_calli (rest := []) C hK (fun sz => tk_X3_whyNoBox h) (cwV 1 C.t (lw_V q2407 q2409 qs51 q130 q2410) rfl rfl rfl ⟨rfl, dmX3_whyNoBox⟩ ⟨Nat.le_of_ble_eq_true rfl, Nat.le_of_ble_eq_true rfl⟩) rfl rfl (Nat.le_of_ble_eq_true rfl) dX3_canDo_48 (fun r48 M48 h => ?_)
      refine gx_phii (t := (if r48 = 0 then 1 else 0)) (pc2 := 117) (lv2 := [(0, .ref (g 0))]) (rest2 := []) (fun key => ?_) ?_
      · refine gx_if_ne (tgt := 58) C dX3_canDo_51 (by decide) (fun z1 => ?_) (fun z1 => ?_)
        · refine gx_iconst (v := 0) C dX3_canDo_58 (by decide) ?_
          refine gx_goto (tgt := 117) C dX3_canDo_59 (by decide) ?_
          exact gx_casti (if_neg z1) key
        · refine gx_iconst (v := 1) C dX3_canDo_54 (by decide) ?_
          refine gx_goto (tgt := 117) C dX3_canDo_55 (by decide) ?_
          exact gx_casti (if_pos z1) key
      refine gx_sub [] rfl ?_
      exact tb_X3_canDo_117 C hK h
  · replace h := h.1 z
    refine gx_aload_n C dX3_canDo_9 rfl 0 rfl ?_
    refine tm_get C hK 1 (by decide) q2301 rfl rfl dX3_canDo_10 ?_
    refine gx_iconst (v := 0) C dX3_canDo_13 (by decide) ?_
    obtain ⟨g14, h⟩ := h
    refine tm_ald0 C hK g14 dX3_canDo_14 ?_
    refine gx_aload_n C dX3_canDo_15 rfl 0 rfl ?_
    refine tm_get C hK 13 (by decide) q2313 rfl rfl dX3_canDo_16 ?_
    refine gx_iadd C dX3_canDo_19 ?_
    refine gx_sipush (v := 999) C dX3_canDo_20 (by decide) ?_
    refine gx_phii (t := (if 999 < ((ms_r M 0 0) + (M.1 13)) then 0 else 1)) (pc2 := 117) (lv2 := [(0, .ref (g 0))]) (rest2 := []) (fun key => ?_) ?_
    · refine gx_icmp_gt (tgt := 30) C dX3_canDo_23 (by decide) (fun z1 => ?_) (fun z1 => ?_)
      · refine gx_iconst (v := 0) C dX3_canDo_30 (by decide) ?_
        refine gx_goto (tgt := 117) C dX3_canDo_31 (by decide) ?_
        exact gx_casti (if_pos z1) key
      · refine gx_iconst (v := 1) C dX3_canDo_26 (by decide) ?_
        refine gx_goto (tgt := 117) C dX3_canDo_27 (by decide) ?_
        exact gx_casti (if_neg z1) key
    refine gx_sub [] rfl ?_
    exact tb_X3_canDo_117 C hK h
/-! does()V -/
abbrev rmX3_does : Room := { frames := 11, cells := 0, slots := 0, locals := 249 }
theorem dmX3_does : yX3_does.cls ≠ "java/lang/invoke/MethodHandle" ∧ yX3_does.cls ≠ "java/lang/invoke/VarHandle" ∧ (parseMethodDescriptor yX3_does.desc).map (fun d => d.parameters.length) = some 0 := by decide +kernel
def tj_X3_does_81 (M : MS) (Q : MS → Prop) : Prop :=
  Q M
theorem tb_X3_does_81 {l : Launch} {p : Program} {e : Env} {s : State} {m : MethodId} {args : Array Value} {below : List Frame} {meth : Method} {c : Code} {D : va_G} {g : Nat → Nat} {cI cJ : ClassId} (C : gx_C p s m args meth c cX3_does 1 none RX3) (hK : va_K D gcl [(cI, .int), (cJ, .long)] s) {M : MS} {Q : MS → Prop} (h : tj_X3_does_81 M Q)  : gx_W p l e (headSpec (ws_ yX3_does cX3_does 1 none) rmX3_does).room s m args below meth c 1 (tm_I D g cI cJ s M) 0 0 (MQ below (va_Qv Q (tm_B D g cI cJ s.heap.size) (tm_A g s.heap.size)) args s 0 0 (tm_A g s.heap.size)) 81 [] [] := by
  unfold tj_X3_does_81 at h
  exact tm_vret C hK h dX3_does_81
def tw_X3_does (M : MS) (Q : MS → Prop) : Prop :=
  (((M.1 14) = 121 → tw_X3_years M (M.1 13) (fun r14 M14 => tj_X3_does_81 M14 Q)) ∧ (¬ (M.1 14) = 121 → (((M.1 14) = 98 → tw_X3_putsBox M (M.1 13) (fun r35 M35 => tj_X3_does_81 M35 Q)) ∧ (¬ (M.1 14) = 98 → (((M.1 14) = 111 → tw_X3_letsIn M (M.1 13) (M.1 15) 1 (fun r61 M61 => tj_X3_does_81 M61 Q)) ∧ (¬ (M.1 14) = 111 → tw_X3_kindRead M (fun r74 M74 => tw_X3_setsLand M74 (M.1 13) r74 (fun r77 M77 => tj_X3_does_81 M77 Q))))))))
theorem tk_X3_does {l : Launch} {D : va_G} {g : Nat → Nat} {cI cJ : ClassId} {sz : Nat} {M : MS} {Q : MS → Prop} (h : tw_X3_does M Q) : tm_Met l yX3_does cX3_does 1 none rmX3_does [] D g cI cJ sz M (va_Qv Q (tm_B D g cI cJ sz) (tm_A g sz)) := by
  refine tm_entry (by decide) (Nat.le_of_ble_eq_true rfl) (fun p e s m args below meth c hsz C hK => ?_)
  subst hsz
  unfold tw_X3_does at h
  show gx_W p l e (headSpec (ws_ yX3_does cX3_does 1 none) rmX3_does).room s m args below meth c 1 (tm_I D g cI cJ s M) 0 0 (MQ below (va_Qv Q (tm_B D g cI cJ s.heap.size) (tm_A g s.heap.size)) args s 0 0 (tm_A g s.heap.size)) 0 [(0, .ref (g 0))] []
  refine gx_aload_n C dX3_does_0 rfl 0 rfl ?_
  refine tm_get C hK 14 (by decide) q2314 rfl rfl dX3_does_1 ?_
  refine gx_bipush (v := 121) C dX3_does_4 (by decide) ?_
  refine gx_icmp_ne (tgt := 21) C dX3_does_6 (by decide) (fun z => ?_) (fun z => ?_)
  · replace h := h.2 z
    refine gx_aload_n C dX3_does_21 rfl 0 rfl ?_
    refine tm_get C hK 14 (by decide) q2314 rfl rfl dX3_does_22 ?_
    refine gx_bipush (v := 98) C dX3_does_25 (by decide) ?_
    refine gx_icmp_ne (tgt := 42) C dX3_does_27 (by decide) (fun z => ?_) (fun z => ?_)
    · replace h := h.2 z
      refine gx_aload_n C dX3_does_42 rfl 0 rfl ?_
      refine tm_get C hK 14 (by decide) q2314 rfl rfl dX3_does_43 ?_
      refine gx_bipush (v := 111) C dX3_does_46 (by decide) ?_
      refine gx_icmp_ne (tgt := 68) C dX3_does_48 (by decide) (fun z => ?_) (fun z => ?_)
      · replace h := h.2 z
        refine gx_aload_n C dX3_does_68 rfl 0 rfl ?_
        refine gx_aload_n C dX3_does_69 rfl 0 rfl ?_
        refine tm_get C hK 13 (by decide) q2313 rfl rfl dX3_does_70 ?_
        refine gx_aload_n C dX3_does_73 rfl 0 rfl ?_
        refine tm_calli (rest := [.int (M.1 13), .ref (g 0)]) C hK (fun sz => tk_X3_kindRead h) (cwV 0 C.t (lw_V q2930 q2932 qs116 q130 q2933) rfl rfl rfl ⟨rfl, dmX3_kindRead⟩ ⟨Nat.le_of_ble_eq_true rfl, Nat.le_of_ble_eq_true rfl⟩) rfl rfl (Nat.le_of_ble_eq_true rfl) dX3_does_74 (fun r74 M74 h => ?_)
        refine tm_calli (rest := []) C hK (fun sz => tk_X3_setsLand h) (cwV 2 C.t (lw_V q2375 q2377 qs48 q130 q2378) rfl rfl rfl ⟨rfl, dmX3_setsLand⟩ ⟨Nat.le_of_ble_eq_true rfl, Nat.le_of_ble_eq_true rfl⟩) rfl rfl (Nat.le_of_ble_eq_true rfl) dX3_does_77 (fun r77 M77 h => ?_)
        refine gx_pop C dX3_does_80 rfl ?_
        refine gx_sub [] rfl ?_
        exact tb_X3_does_81 C hK h
      · replace h := h.1 z
        refine gx_aload_n C dX3_does_51 rfl 0 rfl ?_
        refine gx_aload_n C dX3_does_52 rfl 0 rfl ?_
        refine tm_get C hK 13 (by decide) q2313 rfl rfl dX3_does_53 ?_
        refine gx_aload_n C dX3_does_56 rfl 0 rfl ?_
        refine tm_get C hK 15 (by decide) q2315 rfl rfl dX3_does_57 ?_
        refine gx_iconst (v := 1) C dX3_does_60 (by decide) ?_
        refine tm_calli (rest := []) C hK (fun sz => tk_X3_letsIn h) (cwV 3 C.t (lw_V q2454 q2456 qs60 q130 q2457) rfl rfl rfl ⟨rfl, dmX3_letsIn⟩ ⟨Nat.le_of_ble_eq_true rfl, Nat.le_of_ble_eq_true rfl⟩) rfl rfl (Nat.le_of_ble_eq_true rfl) dX3_does_61 (fun r61 M61 h => ?_)
        refine gx_pop C dX3_does_64 rfl ?_
        refine gx_goto (tgt := 81) C dX3_does_65 (by decide) ?_
        refine gx_sub [] rfl ?_
        exact tb_X3_does_81 C hK h
    · replace h := h.1 z
      refine gx_aload_n C dX3_does_30 rfl 0 rfl ?_
      refine gx_aload_n C dX3_does_31 rfl 0 rfl ?_
      refine tm_get C hK 13 (by decide) q2313 rfl rfl dX3_does_32 ?_
      refine tm_calli (rest := []) C hK (fun sz => tk_X3_putsBox h) (cwV 1 C.t (lw_V q2411 q2413 qs52 q130 q2414) rfl rfl rfl ⟨rfl, dmX3_putsBox⟩ ⟨Nat.le_of_ble_eq_true rfl, Nat.le_of_ble_eq_true rfl⟩) rfl rfl (Nat.le_of_ble_eq_true rfl) dX3_does_35 (fun r35 M35 h => ?_)
      refine gx_pop C dX3_does_38 rfl ?_
      refine gx_goto (tgt := 81) C dX3_does_39 (by decide) ?_
      refine gx_sub [] rfl ?_
      exact tb_X3_does_81 C hK h
  · replace h := h.1 z
    refine gx_aload_n C dX3_does_9 rfl 0 rfl ?_
    refine gx_aload_n C dX3_does_10 rfl 0 rfl ?_
    refine tm_get C hK 13 (by decide) q2313 rfl rfl dX3_does_11 ?_
    refine tm_calli (rest := []) C hK (fun sz => tk_X3_years h) (cwV 1 C.t (lw_V q2481 q2483 qs64 q130 q2484) rfl rfl rfl ⟨rfl, dmX3_years⟩ ⟨Nat.le_of_ble_eq_true rfl, Nat.le_of_ble_eq_true rfl⟩) rfl rfl (Nat.le_of_ble_eq_true rfl) dX3_does_14 (fun r14 M14 h => ?_)
    refine gx_pop C dX3_does_17 rfl ?_
    refine gx_goto (tgt := 81) C dX3_does_18 (by decide) ?_
    refine gx_sub [] rfl ?_
    exact tb_X3_does_81 C hK h
/-! doWorks()I -/
abbrev rmX3_doWorks : Room := { frames := 12, cells := 0, slots := 0, locals := 269 }
theorem dmX3_doWorks : yX3_doWorks.cls ≠ "java/lang/invoke/MethodHandle" ∧ yX3_doWorks.cls ≠ "java/lang/invoke/VarHandle" ∧ (parseMethodDescriptor yX3_doWorks.desc).map (fun d => d.parameters.length) = some 0 := by decide +kernel
def tj_X3_doWorks_88 (M : MS) (a1 : Int32) (Q : Int32 → MS → Prop) : Prop :=
  (∀ M90 : MS, M90 = ms_s M 11 0 → Q a1 M90)
theorem tb_X3_doWorks_88 {l : Launch} {p : Program} {e : Env} {s : State} {m : MethodId} {args : Array Value} {below : List Frame} {meth : Method} {c : Code} {D : va_G} {g : Nat → Nat} {cI cJ : ClassId} (C : gx_C p s m args meth c cX3_doWorks 3 (some .int) RX3) (hK : va_K D gcl [(cI, .int), (cJ, .long)] s) {M : MS} {a1 : Int32} {Q : Int32 → MS → Prop} (h : tj_X3_doWorks_88 M a1 Q)  : gx_W p l e (headSpec (ws_ yX3_doWorks cX3_doWorks 3 (some .int)) rmX3_doWorks).room s m args below meth c 3 (tm_I D g cI cJ s M) 0 0 (MQ below (va_Qi Q (tm_B D g cI cJ s.heap.size) (tm_A g s.heap.size)) args s 0 0 (tm_A g s.heap.size)) 88 [(0, .ref (g 0)), (1, .int a1)] [] := by
  unfold tj_X3_doWorks_88 at h
  refine gx_aload_n C dX3_doWorks_88 rfl 0 rfl ?_
  refine gx_iconst (v := 0) C dX3_doWorks_89 (by decide) ?_
  refine tm_put11 C hK q2311 dX3_doWorks_90 (fun M90 e_M90 => ?_)
  replace h := h M90 e_M90
  refine gx_iload_n C dX3_doWorks_93 rfl 1 rfl ?_
  exact tm_iret C hK h dX3_doWorks_94
def tj_X3_doWorks_39 (M : MS) (a1 : Int32) (a2 : Int32) (k39 : MS → Int32 → Int32 → Prop) (Q : Int32 → MS → Prop) : Prop :=
  ((a2 = 0 → tj_X3_doWorks_88 M a1 Q) ∧ (¬ (a2 = 0) → (((M.1 11) ≤ (M.1 12) → tj_X3_doWorks_88 M a1 Q) ∧ (¬ (M.1 11) ≤ (M.1 12) → tw_X3_readsWork M (fun r55 M55 => (∀ M66 : MS, M66 = ms_s M55 12 ((M55.1 12) + 1) → tw_X3_canDo M66 (fun r70 M70 => ((r70 = 0 → k39 M70 a1 r70) ∧ (¬ (r70 = 0) → tw_X3_does M70 (fun M79 => k39 M79 (a1 + 1) r70))))))))))
theorem tb_X3_doWorks_39 {l : Launch} {p : Program} {e : Env} {s : State} {m : MethodId} {args : Array Value} {below : List Frame} {meth : Method} {c : Code} {D : va_G} {g : Nat → Nat} {cI cJ : ClassId} (C : gx_C p s m args meth c cX3_doWorks 3 (some .int) RX3) (hK : va_K D gcl [(cI, .int), (cJ, .long)] s) {M : MS} {a1 : Int32} {a2 : Int32} {k39 : MS → Int32 → Int32 → Prop} {Q : Int32 → MS → Prop} (h : tj_X3_doWorks_39 M a1 a2 k39 Q) (hk39 : ∀ (M : MS) (a1 : Int32) (a2 : Int32), k39 M a1 a2 → gx_W p l e (headSpec (ws_ yX3_doWorks cX3_doWorks 3 (some .int)) rmX3_doWorks).room s m args below meth c 3 (tm_I D g cI cJ s M) 0 0 (MQ below (va_Qi Q (tm_B D g cI cJ s.heap.size) (tm_A g s.heap.size)) args s 0 0 (tm_A g s.heap.size)) 39 [(0, .ref (g 0)), (1, .int a1), (2, .int a2)] []) : gx_W p l e (headSpec (ws_ yX3_doWorks cX3_doWorks 3 (some .int)) rmX3_doWorks).room s m args below meth c 3 (tm_I D g cI cJ s M) 0 0 (MQ below (va_Qi Q (tm_B D g cI cJ s.heap.size) (tm_A g s.heap.size)) args s 0 0 (tm_A g s.heap.size)) 39 [(0, .ref (g 0)), (1, .int a1), (2, .int a2)] [] := by
  unfold tj_X3_doWorks_39 at h
  refine gx_iload_n C dX3_doWorks_39 rfl 2 rfl ?_
  refine gx_if_eq (tgt := 88) C dX3_doWorks_40 (by decide) (fun z => ?_) (fun z => ?_)
  · replace h := h.1 z
    refine gx_sub [0, 1] rfl ?_
    exact tb_X3_doWorks_88 C hK h
  · replace h := h.2 z
    refine gx_aload_n C dX3_doWorks_43 rfl 0 rfl ?_
    refine tm_get C hK 12 (by decide) q2312 rfl rfl dX3_doWorks_44 ?_
    refine gx_aload_n C dX3_doWorks_47 rfl 0 rfl ?_
    refine tm_get C hK 11 (by decide) q2311 rfl rfl dX3_doWorks_48 ?_
    refine gx_icmp_ge (tgt := 88) C dX3_doWorks_51 (by decide) (fun z => ?_) (fun z => ?_)
    · replace h := h.1 z
      refine gx_sub [0, 1] rfl ?_
      exact tb_X3_doWorks_88 C hK h
    · replace h := h.2 z
      refine gx_aload_n C dX3_doWorks_54 rfl 0 rfl ?_
      refine tm_calli (rest := []) C hK (fun sz => tk_X3_readsWork h) (cwV 0 C.t (lw_V q2906 q2908 qs111 q130 q2909) rfl rfl rfl ⟨rfl, dmX3_readsWork⟩ ⟨Nat.le_of_ble_eq_true rfl, Nat.le_of_ble_eq_true rfl⟩) rfl rfl (Nat.le_of_ble_eq_true rfl) dX3_doWorks_55 (fun r55 M55 h => ?_)
      refine gx_pop C dX3_doWorks_58 rfl ?_
      refine gx_aload_n C dX3_doWorks_59 rfl 0 rfl ?_
      refine gx_dup C dX3_doWorks_60 rfl ?_
      refine tm_get C hK 12 (by decide) q2312 rfl rfl dX3_doWorks_61 ?_
      refine gx_iconst (v := 1) C dX3_doWorks_64 (by decide) ?_
      refine gx_iadd C dX3_doWorks_65 ?_
      refine tm_put12 C hK q2312 dX3_doWorks_66 (fun M66 e_M66 => ?_)
      replace h := h M66 e_M66
      refine gx_aload_n C dX3_doWorks_69 rfl 0 rfl ?_
      refine tm_calli (rest := []) C hK (fun sz => tk_X3_canDo h) (cwV 0 C.t (lw_V q2926 q2928 qs115 q130 q2929) rfl rfl rfl ⟨rfl, dmX3_canDo⟩ ⟨Nat.le_of_ble_eq_true rfl, Nat.le_of_ble_eq_true rfl⟩) rfl rfl (Nat.le_of_ble_eq_true rfl) dX3_doWorks_70 (fun r70 M70 h => ?_)
      refine gx_istore_n (lv' := [(2, .int r70), (0, .ref (g 0)), (1, .int a1)]) C dX3_doWorks_73 rfl (by decide) rfl ?_
      refine gx_iload_n C dX3_doWorks_74 rfl 0 rfl ?_
      refine gx_if_eq (tgt := 39) C dX3_doWorks_75 (by decide) (fun z => ?_) (fun z => ?_)
      · replace h := h.1 z
        refine gx_sub [1, 2, 0] rfl ?_
        exact hk39 M70 a1 r70 h
      · replace h := h.2 z
        refine gx_aload_n C dX3_doWorks_78 rfl 1 rfl ?_
        refine tm_callv (rest := []) C hK (fun sz => tk_X3_does h) (cwV 0 C.t (lw_V q2934 q2936 qs117 q130 q2937) rfl rfl rfl ⟨rfl, dmX3_does⟩ ⟨Nat.le_of_ble_eq_true rfl, Nat.le_of_ble_eq_true rfl⟩) rfl rfl (Nat.le_of_ble_eq_true rfl) dX3_doWorks_79 (fun M79 h => ?_)
        refine gx_iinc (v := a1 + 1) (k := 2) (lv' := [(1, .int (a1 + 1)), (2, .int r70), (0, .ref (g 0))]) C dX3_doWorks_82 rfl rfl (by decide) rfl ?_
        refine gx_goto (tgt := 39) C dX3_doWorks_85 (by decide) ?_
        refine gx_sub [2, 0, 1] rfl ?_
        exact hk39 M79 (a1 + 1) r70 h
def tl_X3_doWorks_39 (Q : Int32 → MS → Prop) : Nat → MS → Int32 → Int32 → Prop
  | 0, _, _, _ => False
  | n + 1, M, a1, a2 => tj_X3_doWorks_39 M a1 a2 (fun M a1 a2 => tl_X3_doWorks_39 Q n M a1 a2) Q
theorem te_X3_doWorks_39 {l : Launch} {p : Program} {e : Env} {s : State} {m : MethodId} {args : Array Value} {below : List Frame} {meth : Method} {c : Code} {D : va_G} {g : Nat → Nat} {cI cJ : ClassId} (C : gx_C p s m args meth c cX3_doWorks 3 (some .int) RX3) (hK : va_K D gcl [(cI, .int), (cJ, .long)] s) {Q : Int32 → MS → Prop}  (n : Nat) : ∀ (M : MS) (a1 : Int32) (a2 : Int32), tl_X3_doWorks_39 Q n M a1 a2 → gx_W p l e (headSpec (ws_ yX3_doWorks cX3_doWorks 3 (some .int)) rmX3_doWorks).room s m args below meth c 3 (tm_I D g cI cJ s M) 0 0 (MQ below (va_Qi Q (tm_B D g cI cJ s.heap.size) (tm_A g s.heap.size)) args s 0 0 (tm_A g s.heap.size)) 39 [(0, .ref (g 0)), (1, .int a1), (2, .int a2)] [] := by
  induction n with
  | zero => intro M a1 a2 h; exact False.elim h
  | succ n ih => intro M a1 a2 h; exact tb_X3_doWorks_39 C hK (show tj_X3_doWorks_39 M a1 a2 (fun M a1 a2 => tl_X3_doWorks_39 Q n M a1 a2) Q from h) (fun M a1 a2 h => ih M a1 a2 h)
def tw_X3_doWorks (M : MS) (Q : Int32 → MS → Prop) : Prop :=
  tw_X3_findError M (fun r2 M2 => (∀ M14 : MS, M14 = ms_s M2 0 (if r2 = (-1) then 0 else 1) → (((M14.1 0) ≤ 0 → tw_X3_record M14 (fun M27 => (∀ M34 : MS, M34 = ms_s M27 12 0 → ∃ n : Nat, tl_X3_doWorks_39 Q n M34 0 1))) ∧ (¬ (M14.1 0) ≤ 0 → Q 0 M14))))
theorem tk_X3_doWorks {l : Launch} {D : va_G} {g : Nat → Nat} {cI cJ : ClassId} {sz : Nat} {M : MS} {Q : Int32 → MS → Prop} (h : tw_X3_doWorks M Q) : tm_Met l yX3_doWorks cX3_doWorks 3 (some .int) rmX3_doWorks [] D g cI cJ sz M (va_Qi Q (tm_B D g cI cJ sz) (tm_A g sz)) := by
  refine tm_entry (by decide) (Nat.le_of_ble_eq_true rfl) (fun p e s m args below meth c hsz C hK => ?_)
  subst hsz
  unfold tw_X3_doWorks at h
  show gx_W p l e (headSpec (ws_ yX3_doWorks cX3_doWorks 3 (some .int)) rmX3_doWorks).room s m args below meth c 3 (tm_I D g cI cJ s M) 0 0 (MQ below (va_Qi Q (tm_B D g cI cJ s.heap.size) (tm_A g s.heap.size)) args s 0 0 (tm_A g s.heap.size)) 0 [(0, .ref (g 0))] []
  refine gx_aload_n C dX3_doWorks_0 rfl 0 rfl ?_
  refine gx_aload_n C dX3_doWorks_1 rfl 0 rfl ?_
  refine tm_calli (rest := [.ref (g 0)]) C hK (fun sz => tk_X3_findError h) (cwV 0 C.t (lw_V q2902 q2904 qs110 q130 q2905) rfl rfl rfl ⟨rfl, dmX3_findError⟩ ⟨Nat.le_of_ble_eq_true rfl, Nat.le_of_ble_eq_true rfl⟩) rfl rfl (Nat.le_of_ble_eq_true rfl) dX3_doWorks_2 (fun r2 M2 h => ?_)
  refine gx_iconst (v := (-1)) C dX3_doWorks_5 (by decide) ?_
  refine gx_phii (t := (if r2 = (-1) then 0 else 1)) (pc2 := 14) (lv2 := [(0, .ref (g 0))]) (rest2 := [.ref (g 0)]) (fun key => ?_) ?_
  · refine gx_icmp_ne (tgt := 13) C dX3_doWorks_6 (by decide) (fun z1 => ?_) (fun z1 => ?_)
    · refine gx_iconst (v := 1) C dX3_doWorks_13 (by decide) ?_
      exact gx_casti (if_neg z1) key
    · refine gx_iconst (v := 0) C dX3_doWorks_9 (by decide) ?_
      refine gx_goto (tgt := 14) C dX3_doWorks_10 (by decide) ?_
      exact gx_casti (if_pos z1) key
  refine tm_put0 C hK q2300 dX3_doWorks_14 (fun M14 e_M14 => ?_)
  replace h := h M14 e_M14
  refine gx_aload_n C dX3_doWorks_17 rfl 0 rfl ?_
  refine tm_get C hK 0 (by decide) q2300 rfl rfl dX3_doWorks_18 ?_
  refine gx_if_le (tgt := 26) C dX3_doWorks_21 (by decide) (fun z => ?_) (fun z => ?_)
  · replace h := h.1 z
    refine gx_aload_n C dX3_doWorks_26 rfl 0 rfl ?_
    refine tm_callv (rest := []) C hK (fun sz => tk_X3_record h) (cwV 0 C.t (lw_V q2371 q2373 qs47 q130 q2374) rfl rfl rfl ⟨rfl, dmX3_record⟩ ⟨Nat.le_of_ble_eq_true rfl, Nat.le_of_ble_eq_true rfl⟩) rfl rfl (Nat.le_of_ble_eq_true rfl) dX3_doWorks_27 (fun M27 h => ?_)
    refine gx_iconst (v := 0) C dX3_doWorks_30 (by decide) ?_
    refine gx_istore_n (lv' := [(1, .int 0), (0, .ref (g 0))]) C dX3_doWorks_31 rfl (by decide) rfl ?_
    refine gx_aload_n C dX3_doWorks_32 rfl 1 rfl ?_
    refine gx_iconst (v := 0) C dX3_doWorks_33 (by decide) ?_
    refine tm_put12 C hK q2312 dX3_doWorks_34 (fun M34 e_M34 => ?_)
    replace h := h M34 e_M34
    refine gx_iconst (v := 1) C dX3_doWorks_37 (by decide) ?_
    refine gx_istore_n (lv' := [(2, .int 1), (1, .int 0), (0, .ref (g 0))]) C dX3_doWorks_38 rfl (by decide) rfl ?_
    refine gx_sub [2, 1, 0] rfl ?_
    obtain ⟨n, h⟩ := h
    exact te_X3_doWorks_39 C hK n M34 0 1 h
  · replace h := h.2 z
    refine gx_iconst (v := 0) C dX3_doWorks_24 (by decide) ?_
    exact tm_iret C hK h dX3_doWorks_25
/-! undo()I -/
abbrev rmX3_undo : Room := { frames := 0, cells := 0, slots := 0, locals := 0 }
theorem dmX3_undo : yX3_undo.cls ≠ "java/lang/invoke/MethodHandle" ∧ yX3_undo.cls ≠ "java/lang/invoke/VarHandle" ∧ (parseMethodDescriptor yX3_undo.desc).map (fun d => d.parameters.length) = some 0 := by decide +kernel
def tj_X3_undo_37 (M : MS) (a1 : Int32) (k37 : MS → Int32 → Prop) (Q : Int32 → MS → Prop) : Prop :=
  ((754 ≤ a1 → Q (M.1 3) M) ∧ (¬ (754 ≤ a1) → (vp_in (((M.1 3) * 754) + a1) 4524 ∧ (vp_in a1 754 ∧ ∀ M64 : MS, M64 = ms_a M 0 a1 (ms_r M 1 (((M.1 3) * 754) + a1)) → k37 M64 (a1 + 1)))))
theorem tb_X3_undo_37 {l : Launch} {p : Program} {e : Env} {s : State} {m : MethodId} {args : Array Value} {below : List Frame} {meth : Method} {c : Code} {D : va_G} {g : Nat → Nat} {cI cJ : ClassId} (C : gx_C p s m args meth c cX3_undo 2 (some .int) RX3) (hK : va_K D gcl [(cI, .int), (cJ, .long)] s) {M : MS} {a1 : Int32} {k37 : MS → Int32 → Prop} {Q : Int32 → MS → Prop} (h : tj_X3_undo_37 M a1 k37 Q) (hk37 : ∀ (M : MS) (a1 : Int32), k37 M a1 → gx_W p l e (headSpec (ws_ yX3_undo cX3_undo 2 (some .int)) rmX3_undo).room s m args below meth c 2 (tm_I D g cI cJ s M) 0 0 (MQ below (va_Qi Q (tm_B D g cI cJ s.heap.size) (tm_A g s.heap.size)) args s 0 0 (tm_A g s.heap.size)) 37 [(0, .ref (g 0)), (1, .int a1)] []) : gx_W p l e (headSpec (ws_ yX3_undo cX3_undo 2 (some .int)) rmX3_undo).room s m args below meth c 2 (tm_I D g cI cJ s M) 0 0 (MQ below (va_Qi Q (tm_B D g cI cJ s.heap.size) (tm_A g s.heap.size)) args s 0 0 (tm_A g s.heap.size)) 37 [(0, .ref (g 0)), (1, .int a1)] [] := by
  unfold tj_X3_undo_37 at h
  refine gx_iload_n C dX3_undo_37 rfl 1 rfl ?_
  refine gx_sipush (v := 754) C dX3_undo_38 (by decide) ?_
  refine gx_icmp_ge (tgt := 71) C dX3_undo_41 (by decide) (fun z => ?_) (fun z => ?_)
  · replace h := h.1 z
    refine gx_aload_n C dX3_undo_71 rfl 0 rfl ?_
    refine tm_get C hK 3 (by decide) q2303 rfl rfl dX3_undo_72 ?_
    exact tm_iret C hK h dX3_undo_75
  · replace h := h.2 z
    refine gx_aload_n C dX3_undo_44 rfl 0 rfl ?_
    refine tm_get C hK 1 (by decide) q2301 rfl rfl dX3_undo_45 ?_
    refine gx_iload_n C dX3_undo_48 rfl 1 rfl ?_
    refine gx_aload_n C dX3_undo_49 rfl 0 rfl ?_
    refine tm_get C hK 2 (by decide) q2302 rfl rfl dX3_undo_50 ?_
    refine gx_aload_n C dX3_undo_53 rfl 0 rfl ?_
    refine tm_get C hK 3 (by decide) q2303 rfl rfl dX3_undo_54 ?_
    refine gx_sipush (v := 754) C dX3_undo_57 (by decide) ?_
    refine gx_imul C dX3_undo_60 ?_
    refine gx_iload_n C dX3_undo_61 rfl 1 rfl ?_
    refine gx_iadd C dX3_undo_62 ?_
    obtain ⟨g63, h⟩ := h
    refine tm_ald1 C hK g63 dX3_undo_63 ?_
    obtain ⟨g64, h⟩ := h
    refine tm_ast0 C hK g64 dX3_undo_64 (fun M64 e_M64 => ?_)
    replace h := h M64 e_M64
    refine gx_iinc (v := a1 + 1) (k := 1) (lv' := [(1, .int (a1 + 1)), (0, .ref (g 0))]) C dX3_undo_65 rfl rfl (by decide) rfl ?_
    refine gx_goto (tgt := 37) C dX3_undo_68 (by decide) ?_
    refine gx_sub [1, 0] rfl ?_
    exact hk37 M64 (a1 + 1) h
def tl_X3_undo_37 (Q : Int32 → MS → Prop) : Nat → MS → Int32 → Prop
  | 0, _, _ => False
  | n + 1, M, a1 => tj_X3_undo_37 M a1 (fun M a1 => tl_X3_undo_37 Q n M a1) Q
theorem te_X3_undo_37 {l : Launch} {p : Program} {e : Env} {s : State} {m : MethodId} {args : Array Value} {below : List Frame} {meth : Method} {c : Code} {D : va_G} {g : Nat → Nat} {cI cJ : ClassId} (C : gx_C p s m args meth c cX3_undo 2 (some .int) RX3) (hK : va_K D gcl [(cI, .int), (cJ, .long)] s) {Q : Int32 → MS → Prop}  (n : Nat) : ∀ (M : MS) (a1 : Int32), tl_X3_undo_37 Q n M a1 → gx_W p l e (headSpec (ws_ yX3_undo cX3_undo 2 (some .int)) rmX3_undo).room s m args below meth c 2 (tm_I D g cI cJ s M) 0 0 (MQ below (va_Qi Q (tm_B D g cI cJ s.heap.size) (tm_A g s.heap.size)) args s 0 0 (tm_A g s.heap.size)) 37 [(0, .ref (g 0)), (1, .int a1)] [] := by
  induction n with
  | zero => intro M a1 h; exact False.elim h
  | succ n ih => intro M a1 h; exact tb_X3_undo_37 C hK (show tj_X3_undo_37 M a1 (fun M a1 => tl_X3_undo_37 Q n M a1) Q from h) (fun M a1 h => ih M a1 h)
def tw_X3_undo (M : MS) (Q : Int32 → MS → Prop) : Prop :=
  (∀ M13 : MS, M13 = ms_s M 0 (if (M.1 3) = 0 then 1 else 0) → (((M13.1 0) ≤ 0 → (∀ M32 : MS, M32 = ms_s M13 3 ((M13.1 3) - 1) → ∃ n : Nat, tl_X3_undo_37 Q n M32 0)) ∧ (¬ (M13.1 0) ≤ 0 → Q 0 M13)))
theorem tk_X3_undo {l : Launch} {D : va_G} {g : Nat → Nat} {cI cJ : ClassId} {sz : Nat} {M : MS} {Q : Int32 → MS → Prop} (h : tw_X3_undo M Q) : tm_Met l yX3_undo cX3_undo 2 (some .int) rmX3_undo [] D g cI cJ sz M (va_Qi Q (tm_B D g cI cJ sz) (tm_A g sz)) := by
  refine tm_entry (by decide) (Nat.le_of_ble_eq_true rfl) (fun p e s m args below meth c hsz C hK => ?_)
  subst hsz
  unfold tw_X3_undo at h
  show gx_W p l e (headSpec (ws_ yX3_undo cX3_undo 2 (some .int)) rmX3_undo).room s m args below meth c 2 (tm_I D g cI cJ s M) 0 0 (MQ below (va_Qi Q (tm_B D g cI cJ s.heap.size) (tm_A g s.heap.size)) args s 0 0 (tm_A g s.heap.size)) 0 [(0, .ref (g 0))] []
  refine gx_aload_n C dX3_undo_0 rfl 0 rfl ?_
  refine gx_aload_n C dX3_undo_1 rfl 0 rfl ?_
  refine tm_get C hK 3 (by decide) q2303 rfl rfl dX3_undo_2 ?_
  refine gx_phii (t := (if (M.1 3) = 0 then 1 else 0)) (pc2 := 13) (lv2 := [(0, .ref (g 0))]) (rest2 := [.ref (g 0)]) (fun key => ?_) ?_
  · refine gx_if_ne (tgt := 12) C dX3_undo_5 (by decide) (fun z1 => ?_) (fun z1 => ?_)
    · refine gx_iconst (v := 0) C dX3_undo_12 (by decide) ?_
      exact gx_casti (if_neg z1) key
    · refine gx_iconst (v := 1) C dX3_undo_8 (by decide) ?_
      refine gx_goto (tgt := 13) C dX3_undo_9 (by decide) ?_
      exact gx_casti (if_pos z1) key
  refine tm_put0 C hK q2300 dX3_undo_13 (fun M13 e_M13 => ?_)
  replace h := h M13 e_M13
  refine gx_aload_n C dX3_undo_16 rfl 0 rfl ?_
  refine tm_get C hK 0 (by decide) q2300 rfl rfl dX3_undo_17 ?_
  refine gx_if_le (tgt := 25) C dX3_undo_20 (by decide) (fun z => ?_) (fun z => ?_)
  · replace h := h.1 z
    refine gx_aload_n C dX3_undo_25 rfl 0 rfl ?_
    refine gx_dup C dX3_undo_26 rfl ?_
    refine tm_get C hK 3 (by decide) q2303 rfl rfl dX3_undo_27 ?_
    refine gx_iconst (v := 1) C dX3_undo_30 (by decide) ?_
    refine gx_isub C dX3_undo_31 ?_
    refine tm_put3 C hK q2303 dX3_undo_32 (fun M32 e_M32 => ?_)
    replace h := h M32 e_M32
    refine gx_iconst (v := 0) C dX3_undo_35 (by decide) ?_
    refine gx_istore_n (lv' := [(1, .int 0), (0, .ref (g 0))]) C dX3_undo_36 rfl (by decide) rfl ?_
    refine gx_sub [1, 0] rfl ?_
    obtain ⟨n, h⟩ := h
    exact te_X3_undo_37 C hK n M32 0 h
  · replace h := h.2 z
    refine gx_iconst (v := 0) C dX3_undo_23 (by decide) ?_
    exact tm_iret C hK h dX3_undo_24
/-! digest()J -/
abbrev rmX3_digest : Room := { frames := 12, cells := 0, slots := 0, locals := 271 }
theorem dmX3_digest : yX3_digest.cls ≠ "java/lang/invoke/MethodHandle" ∧ yX3_digest.cls ≠ "java/lang/invoke/VarHandle" ∧ (parseMethodDescriptor yX3_digest.desc).map (fun d => d.parameters.length) = some 0 := by decide +kernel
def tj_X3_digest_544 (M : MS) (a1 : Int64) (a3 : Int32) (a4 : Int32) (k544 : MS → Int64 → Int32 → Int32 → Prop) (k530 : MS → Int64 → Int32 → Prop) (Q : Int64 → MS → Prop) : Prop :=
  ((3 ≤ a4 → k530 M a1 (a3 + 1)) ∧ (¬ (3 ≤ a4) → tw_X3_ofDeath M a3 a4 (fun r559 M559 => k544 M559 ((31 * a1) + r559.toInt64) a3 (a4 + 1))))
theorem tb_X3_digest_544 {l : Launch} {p : Program} {e : Env} {s : State} {m : MethodId} {args : Array Value} {below : List Frame} {meth : Method} {c : Code} {D : va_G} {g : Nat → Nat} {cI cJ : ClassId} (C : gx_C p s m args meth c cX3_digest 5 (some .long) RX3) (hK : va_K D gcl [(cI, .int), (cJ, .long)] s) {M : MS} {a1 : Int64} {a3 : Int32} {a4 : Int32} {k544 : MS → Int64 → Int32 → Int32 → Prop} {k530 : MS → Int64 → Int32 → Prop} {Q : Int64 → MS → Prop} (h : tj_X3_digest_544 M a1 a3 a4 k544 k530 Q) (hk544 : ∀ (M : MS) (a1 : Int64) (a3 : Int32) (a4 : Int32), k544 M a1 a3 a4 → gx_W p l e (headSpec (ws_ yX3_digest cX3_digest 5 (some .long)) rmX3_digest).room s m args below meth c 5 (tm_I D g cI cJ s M) 0 0 (MQ below (va_Ql Q (tm_B D g cI cJ s.heap.size) (tm_A g s.heap.size)) args s 0 0 (tm_A g s.heap.size)) 544 [(0, .ref (g 0)), (1, .long a1), (3, .int a3), (4, .int a4)] []) (hk530 : ∀ (M : MS) (a1 : Int64) (a3 : Int32), k530 M a1 a3 → gx_W p l e (headSpec (ws_ yX3_digest cX3_digest 5 (some .long)) rmX3_digest).room s m args below meth c 5 (tm_I D g cI cJ s M) 0 0 (MQ below (va_Ql Q (tm_B D g cI cJ s.heap.size) (tm_A g s.heap.size)) args s 0 0 (tm_A g s.heap.size)) 530 [(0, .ref (g 0)), (1, .long a1), (3, .int a3)] []) : gx_W p l e (headSpec (ws_ yX3_digest cX3_digest 5 (some .long)) rmX3_digest).room s m args below meth c 5 (tm_I D g cI cJ s M) 0 0 (MQ below (va_Ql Q (tm_B D g cI cJ s.heap.size) (tm_A g s.heap.size)) args s 0 0 (tm_A g s.heap.size)) 544 [(0, .ref (g 0)), (1, .long a1), (3, .int a3), (4, .int a4)] [] := by
  unfold tj_X3_digest_544 at h
  refine gx_iload C dX3_digest_544 3 rfl ?_
  refine gx_iconst (v := 3) C dX3_digest_546 (by decide) ?_
  refine gx_icmp_ge (tgt := 571) C dX3_digest_547 (by decide) (fun z => ?_) (fun z => ?_)
  · replace h := h.1 z
    refine gx_iinc (v := a3 + 1) (k := 2) (lv' := [(3, .int (a3 + 1)), (0, .ref (g 0)), (1, .long a1), (4, .int a4)]) C dX3_digest_571 rfl rfl (by decide) rfl ?_
    refine gx_goto (tgt := 530) C dX3_digest_574 (by decide) ?_
    refine gx_sub [1, 2, 0] rfl ?_
    exact hk530 M a1 (a3 + 1) h
  · replace h := h.2 z
    refine gx_ldc2 (v := 31) C (C.t _ q2947) dX3_digest_550 ?_
    refine gx_lload_n C dX3_digest_553 rfl 1 rfl ?_
    refine gx_lmul C dX3_digest_554 ?_
    refine gx_aload_n C dX3_digest_555 rfl 0 rfl ?_
    refine gx_iload_n C dX3_digest_556 rfl 2 rfl ?_
    refine gx_iload C dX3_digest_557 3 rfl ?_
    refine tm_calli (rest := [.long (31 * a1)]) C hK (fun sz => tk_X3_ofDeath h) (cwV 2 C.t (lw_V q2830 q2832 qs104 q130 q2833) rfl rfl rfl ⟨rfl, dmX3_ofDeath⟩ ⟨Nat.le_of_ble_eq_true rfl, Nat.le_of_ble_eq_true rfl⟩) rfl rfl (Nat.le_of_ble_eq_true rfl) dX3_digest_559 (fun r559 M559 h => ?_)
    refine gx_i2l C dX3_digest_562 rfl ?_
    refine gx_ladd C dX3_digest_563 ?_
    refine gx_lstore_n (lv' := [(1, .long ((31 * a1) + r559.toInt64)), (0, .ref (g 0)), (3, .int a3), (4, .int a4)]) C dX3_digest_564 rfl (by decide) rfl ?_
    refine gx_iinc (v := a4 + 1) (k := 3) (lv' := [(4, .int (a4 + 1)), (1, .long ((31 * a1) + r559.toInt64)), (0, .ref (g 0)), (3, .int a3)]) C dX3_digest_565 rfl rfl (by decide) rfl ?_
    refine gx_goto (tgt := 544) C dX3_digest_568 (by decide) ?_
    refine gx_sub [2, 1, 3, 0] rfl ?_
    exact hk544 M559 ((31 * a1) + r559.toInt64) a3 (a4 + 1) h
def tl_X3_digest_544 (k530 : MS → Int64 → Int32 → Prop) (Q : Int64 → MS → Prop) : Nat → MS → Int64 → Int32 → Int32 → Prop
  | 0, _, _, _, _ => False
  | n + 1, M, a1, a3, a4 => tj_X3_digest_544 M a1 a3 a4 (fun M a1 a3 a4 => tl_X3_digest_544 k530 Q n M a1 a3 a4) k530 Q
theorem te_X3_digest_544 {l : Launch} {p : Program} {e : Env} {s : State} {m : MethodId} {args : Array Value} {below : List Frame} {meth : Method} {c : Code} {D : va_G} {g : Nat → Nat} {cI cJ : ClassId} (C : gx_C p s m args meth c cX3_digest 5 (some .long) RX3) (hK : va_K D gcl [(cI, .int), (cJ, .long)] s) {k530 : MS → Int64 → Int32 → Prop} {Q : Int64 → MS → Prop} (hk530 : ∀ (M : MS) (a1 : Int64) (a3 : Int32), k530 M a1 a3 → gx_W p l e (headSpec (ws_ yX3_digest cX3_digest 5 (some .long)) rmX3_digest).room s m args below meth c 5 (tm_I D g cI cJ s M) 0 0 (MQ below (va_Ql Q (tm_B D g cI cJ s.heap.size) (tm_A g s.heap.size)) args s 0 0 (tm_A g s.heap.size)) 530 [(0, .ref (g 0)), (1, .long a1), (3, .int a3)] []) (n : Nat) : ∀ (M : MS) (a1 : Int64) (a3 : Int32) (a4 : Int32), tl_X3_digest_544 k530 Q n M a1 a3 a4 → gx_W p l e (headSpec (ws_ yX3_digest cX3_digest 5 (some .long)) rmX3_digest).room s m args below meth c 5 (tm_I D g cI cJ s M) 0 0 (MQ below (va_Ql Q (tm_B D g cI cJ s.heap.size) (tm_A g s.heap.size)) args s 0 0 (tm_A g s.heap.size)) 544 [(0, .ref (g 0)), (1, .long a1), (3, .int a3), (4, .int a4)] [] := by
  induction n with
  | zero => intro M a1 a3 a4 h; exact False.elim h
  | succ n ih => intro M a1 a3 a4 h; exact tb_X3_digest_544 C hK (show tj_X3_digest_544 M a1 a3 a4 (fun M a1 a3 a4 => tl_X3_digest_544 k530 Q n M a1 a3 a4) k530 Q from h) (fun M a1 a3 a4 h => ih M a1 a3 a4 h) hk530
def tj_X3_digest_530 (M : MS) (a1 : Int64) (a3 : Int32) (k530 : MS → Int64 → Int32 → Prop) (Q : Int64 → MS → Prop) : Prop :=
  (vp_in 9 754 ∧ (((ms_r M 0 9) ≤ a3 → tw_X3_bestForBox M (fun r583 M583 => tw_X3_owlsThen M583 4 (fun r596 M596 => (∀ x601 : Int64, x601 = (31 * ((31 * a1) + r583.toInt64)) + r596.toInt64 → (∀ M604 : MS, M604 = ms_s M596 0 0 → Q x601 M604))))) ∧ (¬ (ms_r M 0 9) ≤ a3 → ∃ n : Nat, tl_X3_digest_544 k530 Q n M a1 a3 0)))
theorem tb_X3_digest_530 {l : Launch} {p : Program} {e : Env} {s : State} {m : MethodId} {args : Array Value} {below : List Frame} {meth : Method} {c : Code} {D : va_G} {g : Nat → Nat} {cI cJ : ClassId} (C : gx_C p s m args meth c cX3_digest 5 (some .long) RX3) (hK : va_K D gcl [(cI, .int), (cJ, .long)] s) {M : MS} {a1 : Int64} {a3 : Int32} {k530 : MS → Int64 → Int32 → Prop} {Q : Int64 → MS → Prop} (h : tj_X3_digest_530 M a1 a3 k530 Q) (hk530 : ∀ (M : MS) (a1 : Int64) (a3 : Int32), k530 M a1 a3 → gx_W p l e (headSpec (ws_ yX3_digest cX3_digest 5 (some .long)) rmX3_digest).room s m args below meth c 5 (tm_I D g cI cJ s M) 0 0 (MQ below (va_Ql Q (tm_B D g cI cJ s.heap.size) (tm_A g s.heap.size)) args s 0 0 (tm_A g s.heap.size)) 530 [(0, .ref (g 0)), (1, .long a1), (3, .int a3)] []) : gx_W p l e (headSpec (ws_ yX3_digest cX3_digest 5 (some .long)) rmX3_digest).room s m args below meth c 5 (tm_I D g cI cJ s M) 0 0 (MQ below (va_Ql Q (tm_B D g cI cJ s.heap.size) (tm_A g s.heap.size)) args s 0 0 (tm_A g s.heap.size)) 530 [(0, .ref (g 0)), (1, .long a1), (3, .int a3)] [] := by
  unfold tj_X3_digest_530 at h
  refine gx_iload_n C dX3_digest_530 rfl 2 rfl ?_
  refine gx_aload_n C dX3_digest_531 rfl 0 rfl ?_
  refine tm_get C hK 1 (by decide) q2301 rfl rfl dX3_digest_532 ?_
  refine gx_bipush (v := 9) C dX3_digest_535 (by decide) ?_
  obtain ⟨g537, h⟩ := h
  refine tm_ald0 C hK g537 dX3_digest_537 ?_
  refine gx_icmp_ge (tgt := 577) C dX3_digest_538 (by decide) (fun z => ?_) (fun z => ?_)
  · replace h := h.1 z
    refine gx_ldc2 (v := 31) C (C.t _ q2947) dX3_digest_577 ?_
    refine gx_lload_n C dX3_digest_580 rfl 1 rfl ?_
    refine gx_lmul C dX3_digest_581 ?_
    refine gx_aload_n C dX3_digest_582 rfl 0 rfl ?_
    refine tm_calli (rest := [.long (31 * a1)]) C hK (fun sz => tk_X3_bestForBox h) (cwV 0 C.t (lw_V q2846 q2848 qs105 q130 q2849) rfl rfl rfl ⟨rfl, dmX3_bestForBox⟩ ⟨Nat.le_of_ble_eq_true rfl, Nat.le_of_ble_eq_true rfl⟩) rfl rfl (Nat.le_of_ble_eq_true rfl) dX3_digest_583 (fun r583 M583 h => ?_)
    refine gx_i2l C dX3_digest_586 rfl ?_
    refine gx_ladd C dX3_digest_587 ?_
    refine gx_lstore_n (lv' := [(1, .long ((31 * a1) + r583.toInt64)), (0, .ref (g 0)), (3, .int a3)]) C dX3_digest_588 rfl (by decide) rfl ?_
    refine gx_ldc2 (v := 31) C (C.t _ q2947) dX3_digest_589 ?_
    refine gx_lload_n C dX3_digest_592 rfl 0 rfl ?_
    refine gx_lmul C dX3_digest_593 ?_
    refine gx_aload_n C dX3_digest_594 rfl 1 rfl ?_
    refine gx_iconst (v := 4) C dX3_digest_595 (by decide) ?_
    refine tm_calli (rest := [.long (31 * ((31 * a1) + r583.toInt64))]) C hK (fun sz => tk_X3_owlsThen h) (cwV 1 C.t (lw_V q2854 q2856 qs106 q130 q2857) rfl rfl rfl ⟨rfl, dmX3_owlsThen⟩ ⟨Nat.le_of_ble_eq_true rfl, Nat.le_of_ble_eq_true rfl⟩) rfl rfl (Nat.le_of_ble_eq_true rfl) dX3_digest_596 (fun r596 M596 h => ?_)
    refine gx_i2l C dX3_digest_599 rfl ?_
    refine gx_ladd C dX3_digest_600 ?_
    refine gx_topl (fun x601 e_x601 => ?_)
    replace h := h x601 e_x601
    refine gx_lstore_n (lv' := [(1, .long x601), (0, .ref (g 0)), (3, .int a3)]) C dX3_digest_601 rfl (by decide) rfl ?_
    refine gx_aload_n C dX3_digest_602 rfl 1 rfl ?_
    refine gx_iconst (v := 0) C dX3_digest_603 (by decide) ?_
    refine tm_put0 C hK q2300 dX3_digest_604 (fun M604 e_M604 => ?_)
    replace h := h M604 e_M604
    refine gx_lload_n C dX3_digest_607 rfl 0 rfl ?_
    exact tm_lret C hK h dX3_digest_608
  · replace h := h.2 z
    refine gx_iconst (v := 0) C dX3_digest_541 (by decide) ?_
    refine gx_istore (lv' := [(4, .int 0), (0, .ref (g 0)), (1, .long a1), (3, .int a3)]) C dX3_digest_542 (by decide) rfl ?_
    refine gx_sub [1, 2, 3, 0] rfl ?_
    obtain ⟨n, h⟩ := h
    exact te_X3_digest_544 C hK hk530 n M a1 a3 0 h
def tl_X3_digest_530 (Q : Int64 → MS → Prop) : Nat → MS → Int64 → Int32 → Prop
  | 0, _, _, _ => False
  | n + 1, M, a1, a3 => tj_X3_digest_530 M a1 a3 (fun M a1 a3 => tl_X3_digest_530 Q n M a1 a3) Q
theorem te_X3_digest_530 {l : Launch} {p : Program} {e : Env} {s : State} {m : MethodId} {args : Array Value} {below : List Frame} {meth : Method} {c : Code} {D : va_G} {g : Nat → Nat} {cI cJ : ClassId} (C : gx_C p s m args meth c cX3_digest 5 (some .long) RX3) (hK : va_K D gcl [(cI, .int), (cJ, .long)] s) {Q : Int64 → MS → Prop}  (n : Nat) : ∀ (M : MS) (a1 : Int64) (a3 : Int32), tl_X3_digest_530 Q n M a1 a3 → gx_W p l e (headSpec (ws_ yX3_digest cX3_digest 5 (some .long)) rmX3_digest).room s m args below meth c 5 (tm_I D g cI cJ s M) 0 0 (MQ below (va_Ql Q (tm_B D g cI cJ s.heap.size) (tm_A g s.heap.size)) args s 0 0 (tm_A g s.heap.size)) 530 [(0, .ref (g 0)), (1, .long a1), (3, .int a3)] [] := by
  induction n with
  | zero => intro M a1 a3 h; exact False.elim h
  | succ n ih => intro M a1 a3 h; exact tb_X3_digest_530 C hK (show tj_X3_digest_530 M a1 a3 (fun M a1 a3 => tl_X3_digest_530 Q n M a1 a3) Q from h) (fun M a1 a3 h => ih M a1 a3 h)
def tj_X3_digest_402 (M : MS) (a1 : Int64) (a3 : Int32) (k402 : MS → Int64 → Int32 → Prop) (Q : Int64 → MS → Prop) : Prop :=
  (vp_in 3 754 ∧ (((ms_r M 0 3) ≤ a3 → ∃ n : Nat, tl_X3_digest_530 Q n M a1 0) ∧ (¬ (ms_r M 0 3) ≤ a3 → tw_X3_of M a3 0 (fun r420 M420 => tw_X3_of M420 a3 1 (fun r434 M434 => (∀ x439 : Int64, x439 = (31 * ((31 * a1) + r420.toInt64)) + r434.toInt64 → tw_X3_of M434 a3 2 (fun r448 M448 => tw_X3_of M448 a3 5 (fun r462 M462 => (∀ x467 : Int64, x467 = (31 * ((31 * x439) + r448.toInt64)) + r462.toInt64 → tw_X3_parentRing M462 a3 3 (fun r476 M476 => tw_X3_parentRing M476 a3 4 (fun r490 M490 => (∀ x495 : Int64, x495 = (31 * ((31 * x467) + r476.toInt64)) + r490.toInt64 → tw_X3_children M490 a3 (fun r503 M503 => tw_X3_offspring M503 a3 (fun r516 M516 => (∀ x521 : Int64, x521 = (31 * ((31 * x495) + r503.toInt64)) + r516.toInt64 → k402 M516 x521 (a3 + 1))))))))))))))))
theorem tb_X3_digest_402 {l : Launch} {p : Program} {e : Env} {s : State} {m : MethodId} {args : Array Value} {below : List Frame} {meth : Method} {c : Code} {D : va_G} {g : Nat → Nat} {cI cJ : ClassId} (C : gx_C p s m args meth c cX3_digest 5 (some .long) RX3) (hK : va_K D gcl [(cI, .int), (cJ, .long)] s) {M : MS} {a1 : Int64} {a3 : Int32} {k402 : MS → Int64 → Int32 → Prop} {Q : Int64 → MS → Prop} (h : tj_X3_digest_402 M a1 a3 k402 Q) (hk402 : ∀ (M : MS) (a1 : Int64) (a3 : Int32), k402 M a1 a3 → gx_W p l e (headSpec (ws_ yX3_digest cX3_digest 5 (some .long)) rmX3_digest).room s m args below meth c 5 (tm_I D g cI cJ s M) 0 0 (MQ below (va_Ql Q (tm_B D g cI cJ s.heap.size) (tm_A g s.heap.size)) args s 0 0 (tm_A g s.heap.size)) 402 [(0, .ref (g 0)), (1, .long a1), (3, .int a3)] []) : gx_W p l e (headSpec (ws_ yX3_digest cX3_digest 5 (some .long)) rmX3_digest).room s m args below meth c 5 (tm_I D g cI cJ s M) 0 0 (MQ below (va_Ql Q (tm_B D g cI cJ s.heap.size) (tm_A g s.heap.size)) args s 0 0 (tm_A g s.heap.size)) 402 [(0, .ref (g 0)), (1, .long a1), (3, .int a3)] [] := by
  unfold tj_X3_digest_402 at h
  refine gx_iload_n C dX3_digest_402 rfl 2 rfl ?_
  refine gx_aload_n C dX3_digest_403 rfl 0 rfl ?_
  refine tm_get C hK 1 (by decide) q2301 rfl rfl dX3_digest_404 ?_
  refine gx_iconst (v := 3) C dX3_digest_407 (by decide) ?_
  obtain ⟨g408, h⟩ := h
  refine tm_ald0 C hK g408 dX3_digest_408 ?_
  refine gx_icmp_ge (tgt := 528) C dX3_digest_409 (by decide) (fun z => ?_) (fun z => ?_)
  · replace h := h.1 z
    refine gx_iconst (v := 0) C dX3_digest_528 (by decide) ?_
    refine gx_istore_n (lv' := [(3, .int 0), (0, .ref (g 0)), (1, .long a1)]) C dX3_digest_529 rfl (by decide) rfl ?_
    refine gx_sub [1, 2, 0] rfl ?_
    obtain ⟨n, h⟩ := h
    exact te_X3_digest_530 C hK n M a1 0 h
  · replace h := h.2 z
    refine gx_ldc2 (v := 31) C (C.t _ q2947) dX3_digest_412 ?_
    refine gx_lload_n C dX3_digest_415 rfl 1 rfl ?_
    refine gx_lmul C dX3_digest_416 ?_
    refine gx_aload_n C dX3_digest_417 rfl 0 rfl ?_
    refine gx_iload_n C dX3_digest_418 rfl 2 rfl ?_
    refine gx_iconst (v := 0) C dX3_digest_419 (by decide) ?_
    refine tm_calli (rest := [.long (31 * a1)]) C hK (fun sz => tk_X3_of h) (cwV 2 C.t (lw_V q2435 q2437 qs57 q130 q2438) rfl rfl rfl ⟨rfl, dmX3_of⟩ ⟨Nat.le_of_ble_eq_true rfl, Nat.le_of_ble_eq_true rfl⟩) rfl rfl (Nat.le_of_ble_eq_true rfl) dX3_digest_420 (fun r420 M420 h => ?_)
    refine gx_i2l C dX3_digest_423 rfl ?_
    refine gx_ladd C dX3_digest_424 ?_
    refine gx_lstore_n (lv' := [(1, .long ((31 * a1) + r420.toInt64)), (0, .ref (g 0)), (3, .int a3)]) C dX3_digest_425 rfl (by decide) rfl ?_
    refine gx_ldc2 (v := 31) C (C.t _ q2947) dX3_digest_426 ?_
    refine gx_lload_n C dX3_digest_429 rfl 0 rfl ?_
    refine gx_lmul C dX3_digest_430 ?_
    refine gx_aload_n C dX3_digest_431 rfl 1 rfl ?_
    refine gx_iload_n C dX3_digest_432 rfl 2 rfl ?_
    refine gx_iconst (v := 1) C dX3_digest_433 (by decide) ?_
    refine tm_calli (rest := [.long (31 * ((31 * a1) + r420.toInt64))]) C hK (fun sz => tk_X3_of h) (cwV 2 C.t (lw_V q2435 q2437 qs57 q130 q2438) rfl rfl rfl ⟨rfl, dmX3_of⟩ ⟨Nat.le_of_ble_eq_true rfl, Nat.le_of_ble_eq_true rfl⟩) rfl rfl (Nat.le_of_ble_eq_true rfl) dX3_digest_434 (fun r434 M434 h => ?_)
    refine gx_i2l C dX3_digest_437 rfl ?_
    refine gx_ladd C dX3_digest_438 ?_
    refine gx_topl (fun x439 e_x439 => ?_)
    replace h := h x439 e_x439
    refine gx_lstore_n (lv' := [(1, .long x439), (0, .ref (g 0)), (3, .int a3)]) C dX3_digest_439 rfl (by decide) rfl ?_
    refine gx_ldc2 (v := 31) C (C.t _ q2947) dX3_digest_440 ?_
    refine gx_lload_n C dX3_digest_443 rfl 0 rfl ?_
    refine gx_lmul C dX3_digest_444 ?_
    refine gx_aload_n C dX3_digest_445 rfl 1 rfl ?_
    refine gx_iload_n C dX3_digest_446 rfl 2 rfl ?_
    refine gx_iconst (v := 2) C dX3_digest_447 (by decide) ?_
    refine tm_calli (rest := [.long (31 * x439)]) C hK (fun sz => tk_X3_of h) (cwV 2 C.t (lw_V q2435 q2437 qs57 q130 q2438) rfl rfl rfl ⟨rfl, dmX3_of⟩ ⟨Nat.le_of_ble_eq_true rfl, Nat.le_of_ble_eq_true rfl⟩) rfl rfl (Nat.le_of_ble_eq_true rfl) dX3_digest_448 (fun r448 M448 h => ?_)
    refine gx_i2l C dX3_digest_451 rfl ?_
    refine gx_ladd C dX3_digest_452 ?_
    refine gx_lstore_n (lv' := [(1, .long ((31 * x439) + r448.toInt64)), (0, .ref (g 0)), (3, .int a3)]) C dX3_digest_453 rfl (by decide) rfl ?_
    refine gx_ldc2 (v := 31) C (C.t _ q2947) dX3_digest_454 ?_
    refine gx_lload_n C dX3_digest_457 rfl 0 rfl ?_
    refine gx_lmul C dX3_digest_458 ?_
    refine gx_aload_n C dX3_digest_459 rfl 1 rfl ?_
    refine gx_iload_n C dX3_digest_460 rfl 2 rfl ?_
    refine gx_iconst (v := 5) C dX3_digest_461 (by decide) ?_
    refine tm_calli (rest := [.long (31 * ((31 * x439) + r448.toInt64))]) C hK (fun sz => tk_X3_of h) (cwV 2 C.t (lw_V q2435 q2437 qs57 q130 q2438) rfl rfl rfl ⟨rfl, dmX3_of⟩ ⟨Nat.le_of_ble_eq_true rfl, Nat.le_of_ble_eq_true rfl⟩) rfl rfl (Nat.le_of_ble_eq_true rfl) dX3_digest_462 (fun r462 M462 h => ?_)
    refine gx_i2l C dX3_digest_465 rfl ?_
    refine gx_ladd C dX3_digest_466 ?_
    refine gx_topl (fun x467 e_x467 => ?_)
    replace h := h x467 e_x467
    refine gx_lstore_n (lv' := [(1, .long x467), (0, .ref (g 0)), (3, .int a3)]) C dX3_digest_467 rfl (by decide) rfl ?_
    refine gx_ldc2 (v := 31) C (C.t _ q2947) dX3_digest_468 ?_
    refine gx_lload_n C dX3_digest_471 rfl 0 rfl ?_
    refine gx_lmul C dX3_digest_472 ?_
    refine gx_aload_n C dX3_digest_473 rfl 1 rfl ?_
    refine gx_iload_n C dX3_digest_474 rfl 2 rfl ?_
    refine gx_iconst (v := 3) C dX3_digest_475 (by decide) ?_
    refine tm_calli (rest := [.long (31 * x467)]) C hK (fun sz => tk_X3_parentRing h) (cwV 2 C.t (lw_V q2734 q2736 qs93 q130 q2737) rfl rfl rfl ⟨rfl, dmX3_parentRing⟩ ⟨Nat.le_of_ble_eq_true rfl, Nat.le_of_ble_eq_true rfl⟩) rfl rfl (Nat.le_of_ble_eq_true rfl) dX3_digest_476 (fun r476 M476 h => ?_)
    refine gx_i2l C dX3_digest_479 rfl ?_
    refine gx_ladd C dX3_digest_480 ?_
    refine gx_lstore_n (lv' := [(1, .long ((31 * x467) + r476.toInt64)), (0, .ref (g 0)), (3, .int a3)]) C dX3_digest_481 rfl (by decide) rfl ?_
    refine gx_ldc2 (v := 31) C (C.t _ q2947) dX3_digest_482 ?_
    refine gx_lload_n C dX3_digest_485 rfl 0 rfl ?_
    refine gx_lmul C dX3_digest_486 ?_
    refine gx_aload_n C dX3_digest_487 rfl 1 rfl ?_
    refine gx_iload_n C dX3_digest_488 rfl 2 rfl ?_
    refine gx_iconst (v := 4) C dX3_digest_489 (by decide) ?_
    refine tm_calli (rest := [.long (31 * ((31 * x467) + r476.toInt64))]) C hK (fun sz => tk_X3_parentRing h) (cwV 2 C.t (lw_V q2734 q2736 qs93 q130 q2737) rfl rfl rfl ⟨rfl, dmX3_parentRing⟩ ⟨Nat.le_of_ble_eq_true rfl, Nat.le_of_ble_eq_true rfl⟩) rfl rfl (Nat.le_of_ble_eq_true rfl) dX3_digest_490 (fun r490 M490 h => ?_)
    refine gx_i2l C dX3_digest_493 rfl ?_
    refine gx_ladd C dX3_digest_494 ?_
    refine gx_topl (fun x495 e_x495 => ?_)
    replace h := h x495 e_x495
    refine gx_lstore_n (lv' := [(1, .long x495), (0, .ref (g 0)), (3, .int a3)]) C dX3_digest_495 rfl (by decide) rfl ?_
    refine gx_ldc2 (v := 31) C (C.t _ q2947) dX3_digest_496 ?_
    refine gx_lload_n C dX3_digest_499 rfl 0 rfl ?_
    refine gx_lmul C dX3_digest_500 ?_
    refine gx_aload_n C dX3_digest_501 rfl 1 rfl ?_
    refine gx_iload_n C dX3_digest_502 rfl 2 rfl ?_
    refine tm_calli (rest := [.long (31 * x495)]) C hK (fun sz => tk_X3_children h) (cwV 1 C.t (lw_V q2750 q2752 qs95 q130 q2753) rfl rfl rfl ⟨rfl, dmX3_children⟩ ⟨Nat.le_of_ble_eq_true rfl, Nat.le_of_ble_eq_true rfl⟩) rfl rfl (Nat.le_of_ble_eq_true rfl) dX3_digest_503 (fun r503 M503 h => ?_)
    refine gx_i2l C dX3_digest_506 rfl ?_
    refine gx_ladd C dX3_digest_507 ?_
    refine gx_lstore_n (lv' := [(1, .long ((31 * x495) + r503.toInt64)), (0, .ref (g 0)), (3, .int a3)]) C dX3_digest_508 rfl (by decide) rfl ?_
    refine gx_ldc2 (v := 31) C (C.t _ q2947) dX3_digest_509 ?_
    refine gx_lload_n C dX3_digest_512 rfl 0 rfl ?_
    refine gx_lmul C dX3_digest_513 ?_
    refine gx_aload_n C dX3_digest_514 rfl 1 rfl ?_
    refine gx_iload_n C dX3_digest_515 rfl 2 rfl ?_
    refine tm_calli (rest := [.long (31 * ((31 * x495) + r503.toInt64))]) C hK (fun sz => tk_X3_offspring h) (cwV 1 C.t (lw_V q2766 q2768 qs98 q130 q2769) rfl rfl rfl ⟨rfl, dmX3_offspring⟩ ⟨Nat.le_of_ble_eq_true rfl, Nat.le_of_ble_eq_true rfl⟩) rfl rfl (Nat.le_of_ble_eq_true rfl) dX3_digest_516 (fun r516 M516 h => ?_)
    refine gx_i2l C dX3_digest_519 rfl ?_
    refine gx_ladd C dX3_digest_520 ?_
    refine gx_topl (fun x521 e_x521 => ?_)
    replace h := h x521 e_x521
    refine gx_lstore_n (lv' := [(1, .long x521), (0, .ref (g 0)), (3, .int a3)]) C dX3_digest_521 rfl (by decide) rfl ?_
    refine gx_iinc (v := a3 + 1) (k := 2) (lv' := [(3, .int (a3 + 1)), (1, .long x521), (0, .ref (g 0))]) C dX3_digest_522 rfl rfl (by decide) rfl ?_
    refine gx_goto (tgt := 402) C dX3_digest_525 (by decide) ?_
    refine gx_sub [2, 1, 0] rfl ?_
    exact hk402 M516 x521 (a3 + 1) h
def tl_X3_digest_402 (Q : Int64 → MS → Prop) : Nat → MS → Int64 → Int32 → Prop
  | 0, _, _, _ => False
  | n + 1, M, a1, a3 => tj_X3_digest_402 M a1 a3 (fun M a1 a3 => tl_X3_digest_402 Q n M a1 a3) Q
theorem te_X3_digest_402 {l : Launch} {p : Program} {e : Env} {s : State} {m : MethodId} {args : Array Value} {below : List Frame} {meth : Method} {c : Code} {D : va_G} {g : Nat → Nat} {cI cJ : ClassId} (C : gx_C p s m args meth c cX3_digest 5 (some .long) RX3) (hK : va_K D gcl [(cI, .int), (cJ, .long)] s) {Q : Int64 → MS → Prop}  (n : Nat) : ∀ (M : MS) (a1 : Int64) (a3 : Int32), tl_X3_digest_402 Q n M a1 a3 → gx_W p l e (headSpec (ws_ yX3_digest cX3_digest 5 (some .long)) rmX3_digest).room s m args below meth c 5 (tm_I D g cI cJ s M) 0 0 (MQ below (va_Ql Q (tm_B D g cI cJ s.heap.size) (tm_A g s.heap.size)) args s 0 0 (tm_A g s.heap.size)) 402 [(0, .ref (g 0)), (1, .long a1), (3, .int a3)] [] := by
  induction n with
  | zero => intro M a1 a3 h; exact False.elim h
  | succ n ih => intro M a1 a3 h; exact tb_X3_digest_402 C hK (show tj_X3_digest_402 M a1 a3 (fun M a1 a3 => tl_X3_digest_402 Q n M a1 a3) Q from h) (fun M a1 a3 h => ih M a1 a3 h)
def tj_X3_digest_273 (M : MS) (a1 : Int64) (a3 : Int32) (k273 : MS → Int64 → Int32 → Prop) (Q : Int64 → MS → Prop) : Prop :=
  (vp_in 2 754 ∧ (((ms_r M 0 2) ≤ a3 → ∃ n : Nat, tl_X3_digest_402 Q n M a1 0) ∧ (¬ (ms_r M 0 2) ≤ a3 → (vp_in (144 + a3) 754 ∧ (vp_in a3 11 ∧ (∀ x313 : Int64, x313 = (31 * ((31 * a1) + ((ms_r M 0 (144 + a3)).toInt64))) + (ms_q M a3) → tw_X3_share M a3 (fun r321 M321 => tw_X3_risk M321 a3 (fun r334 M334 => (∀ x339 : Int64, x339 = (31 * ((31 * x313) + r321.toInt64)) + r334.toInt64 → tw_X3_ringIn M334 a3 0 (fun r348 M348 => tw_X3_ringIn M348 a3 1 (fun r362 M362 => (∀ x367 : Int64, x367 = (31 * ((31 * x339) + r348.toInt64)) + r362.toInt64 → tw_X3_reason M362 a3 (fun r375 M375 => tw_X3_young M375 a3 (fun r388 M388 => (∀ x393 : Int64, x393 = (31 * ((31 * x367) + r375.toInt64)) + r388.toInt64 → k273 M388 x393 (a3 + 1))))))))))))))))
theorem tb_X3_digest_273 {l : Launch} {p : Program} {e : Env} {s : State} {m : MethodId} {args : Array Value} {below : List Frame} {meth : Method} {c : Code} {D : va_G} {g : Nat → Nat} {cI cJ : ClassId} (C : gx_C p s m args meth c cX3_digest 5 (some .long) RX3) (hK : va_K D gcl [(cI, .int), (cJ, .long)] s) {M : MS} {a1 : Int64} {a3 : Int32} {k273 : MS → Int64 → Int32 → Prop} {Q : Int64 → MS → Prop} (h : tj_X3_digest_273 M a1 a3 k273 Q) (hk273 : ∀ (M : MS) (a1 : Int64) (a3 : Int32), k273 M a1 a3 → gx_W p l e (headSpec (ws_ yX3_digest cX3_digest 5 (some .long)) rmX3_digest).room s m args below meth c 5 (tm_I D g cI cJ s M) 0 0 (MQ below (va_Ql Q (tm_B D g cI cJ s.heap.size) (tm_A g s.heap.size)) args s 0 0 (tm_A g s.heap.size)) 273 [(0, .ref (g 0)), (1, .long a1), (3, .int a3)] []) : gx_W p l e (headSpec (ws_ yX3_digest cX3_digest 5 (some .long)) rmX3_digest).room s m args below meth c 5 (tm_I D g cI cJ s M) 0 0 (MQ below (va_Ql Q (tm_B D g cI cJ s.heap.size) (tm_A g s.heap.size)) args s 0 0 (tm_A g s.heap.size)) 273 [(0, .ref (g 0)), (1, .long a1), (3, .int a3)] [] := by
  unfold tj_X3_digest_273 at h
  refine gx_iload_n C dX3_digest_273 rfl 2 rfl ?_
  refine gx_aload_n C dX3_digest_274 rfl 0 rfl ?_
  refine tm_get C hK 1 (by decide) q2301 rfl rfl dX3_digest_275 ?_
  refine gx_iconst (v := 2) C dX3_digest_278 (by decide) ?_
  obtain ⟨g279, h⟩ := h
  refine tm_ald0 C hK g279 dX3_digest_279 ?_
  refine gx_icmp_ge (tgt := 400) C dX3_digest_280 (by decide) (fun z => ?_) (fun z => ?_)
  · replace h := h.1 z
    refine gx_iconst (v := 0) C dX3_digest_400 (by decide) ?_
    refine gx_istore_n (lv' := [(3, .int 0), (0, .ref (g 0)), (1, .long a1)]) C dX3_digest_401 rfl (by decide) rfl ?_
    refine gx_sub [1, 2, 0] rfl ?_
    obtain ⟨n, h⟩ := h
    exact te_X3_digest_402 C hK n M a1 0 h
  · replace h := h.2 z
    refine gx_ldc2 (v := 31) C (C.t _ q2947) dX3_digest_283 ?_
    refine gx_lload_n C dX3_digest_286 rfl 1 rfl ?_
    refine gx_lmul C dX3_digest_287 ?_
    refine gx_aload_n C dX3_digest_288 rfl 0 rfl ?_
    refine tm_get C hK 1 (by decide) q2301 rfl rfl dX3_digest_289 ?_
    refine gx_sipush (v := 144) C dX3_digest_292 (by decide) ?_
    refine gx_iload_n C dX3_digest_295 rfl 2 rfl ?_
    refine gx_iadd C dX3_digest_296 ?_
    obtain ⟨g297, h⟩ := h
    refine tm_ald0 C hK g297 dX3_digest_297 ?_
    refine gx_i2l C dX3_digest_298 rfl ?_
    refine gx_ladd C dX3_digest_299 ?_
    refine gx_lstore_n (lv' := [(1, .long ((31 * a1) + ((ms_r M 0 (144 + a3)).toInt64))), (0, .ref (g 0)), (3, .int a3)]) C dX3_digest_300 rfl (by decide) rfl ?_
    refine gx_ldc2 (v := 31) C (C.t _ q2947) dX3_digest_301 ?_
    refine gx_lload_n C dX3_digest_304 rfl 0 rfl ?_
    refine gx_lmul C dX3_digest_305 ?_
    refine gx_aload_n C dX3_digest_306 rfl 1 rfl ?_
    refine tm_get C hK 7 (by decide) q2307 rfl rfl dX3_digest_307 ?_
    refine gx_iload_n C dX3_digest_310 rfl 2 rfl ?_
    obtain ⟨g311, h⟩ := h
    refine tm_lld C hK g311 dX3_digest_311 ?_
    refine gx_ladd C dX3_digest_312 ?_
    refine gx_topl (fun x313 e_x313 => ?_)
    replace h := h x313 e_x313
    refine gx_lstore_n (lv' := [(1, .long x313), (0, .ref (g 0)), (3, .int a3)]) C dX3_digest_313 rfl (by decide) rfl ?_
    refine gx_ldc2 (v := 31) C (C.t _ q2947) dX3_digest_314 ?_
    refine gx_lload_n C dX3_digest_317 rfl 0 rfl ?_
    refine gx_lmul C dX3_digest_318 ?_
    refine gx_aload_n C dX3_digest_319 rfl 1 rfl ?_
    refine gx_iload_n C dX3_digest_320 rfl 2 rfl ?_
    refine tm_calli (rest := [.long (31 * x313)]) C hK (fun sz => tk_X3_share h) (cwV 1 C.t (lw_V q2517 q2519 qs70 q130 q2520) rfl rfl rfl ⟨rfl, dmX3_share⟩ ⟨Nat.le_of_ble_eq_true rfl, Nat.le_of_ble_eq_true rfl⟩) rfl rfl (Nat.le_of_ble_eq_true rfl) dX3_digest_321 (fun r321 M321 h => ?_)
    refine gx_i2l C dX3_digest_324 rfl ?_
    refine gx_ladd C dX3_digest_325 ?_
    refine gx_lstore_n (lv' := [(1, .long ((31 * x313) + r321.toInt64)), (0, .ref (g 0)), (3, .int a3)]) C dX3_digest_326 rfl (by decide) rfl ?_
    refine gx_ldc2 (v := 31) C (C.t _ q2947) dX3_digest_327 ?_
    refine gx_lload_n C dX3_digest_330 rfl 0 rfl ?_
    refine gx_lmul C dX3_digest_331 ?_
    refine gx_aload_n C dX3_digest_332 rfl 1 rfl ?_
    refine gx_iload_n C dX3_digest_333 rfl 2 rfl ?_
    refine tm_calli (rest := [.long (31 * ((31 * x313) + r321.toInt64))]) C hK (fun sz => tk_X3_risk h) (cwV 1 C.t (lw_V q2541 q2543 qs76 q130 q2544) rfl rfl rfl ⟨rfl, dmX3_risk⟩ ⟨Nat.le_of_ble_eq_true rfl, Nat.le_of_ble_eq_true rfl⟩) rfl rfl (Nat.le_of_ble_eq_true rfl) dX3_digest_334 (fun r334 M334 h => ?_)
    refine gx_i2l C dX3_digest_337 rfl ?_
    refine gx_ladd C dX3_digest_338 ?_
    refine gx_topl (fun x339 e_x339 => ?_)
    replace h := h x339 e_x339
    refine gx_lstore_n (lv' := [(1, .long x339), (0, .ref (g 0)), (3, .int a3)]) C dX3_digest_339 rfl (by decide) rfl ?_
    refine gx_ldc2 (v := 31) C (C.t _ q2947) dX3_digest_340 ?_
    refine gx_lload_n C dX3_digest_343 rfl 0 rfl ?_
    refine gx_lmul C dX3_digest_344 ?_
    refine gx_aload_n C dX3_digest_345 rfl 1 rfl ?_
    refine gx_iload_n C dX3_digest_346 rfl 2 rfl ?_
    refine gx_iconst (v := 0) C dX3_digest_347 (by decide) ?_
    refine tm_calli (rest := [.long (31 * x339)]) C hK (fun sz => tk_X3_ringIn h) (cwV 2 C.t (lw_V q2650 q2652 qs86 q130 q2653) rfl rfl rfl ⟨rfl, dmX3_ringIn⟩ ⟨Nat.le_of_ble_eq_true rfl, Nat.le_of_ble_eq_true rfl⟩) rfl rfl (Nat.le_of_ble_eq_true rfl) dX3_digest_348 (fun r348 M348 h => ?_)
    refine gx_i2l C dX3_digest_351 rfl ?_
    refine gx_ladd C dX3_digest_352 ?_
    refine gx_lstore_n (lv' := [(1, .long ((31 * x339) + r348.toInt64)), (0, .ref (g 0)), (3, .int a3)]) C dX3_digest_353 rfl (by decide) rfl ?_
    refine gx_ldc2 (v := 31) C (C.t _ q2947) dX3_digest_354 ?_
    refine gx_lload_n C dX3_digest_357 rfl 0 rfl ?_
    refine gx_lmul C dX3_digest_358 ?_
    refine gx_aload_n C dX3_digest_359 rfl 1 rfl ?_
    refine gx_iload_n C dX3_digest_360 rfl 2 rfl ?_
    refine gx_iconst (v := 1) C dX3_digest_361 (by decide) ?_
    refine tm_calli (rest := [.long (31 * ((31 * x339) + r348.toInt64))]) C hK (fun sz => tk_X3_ringIn h) (cwV 2 C.t (lw_V q2650 q2652 qs86 q130 q2653) rfl rfl rfl ⟨rfl, dmX3_ringIn⟩ ⟨Nat.le_of_ble_eq_true rfl, Nat.le_of_ble_eq_true rfl⟩) rfl rfl (Nat.le_of_ble_eq_true rfl) dX3_digest_362 (fun r362 M362 h => ?_)
    refine gx_i2l C dX3_digest_365 rfl ?_
    refine gx_ladd C dX3_digest_366 ?_
    refine gx_topl (fun x367 e_x367 => ?_)
    replace h := h x367 e_x367
    refine gx_lstore_n (lv' := [(1, .long x367), (0, .ref (g 0)), (3, .int a3)]) C dX3_digest_367 rfl (by decide) rfl ?_
    refine gx_ldc2 (v := 31) C (C.t _ q2947) dX3_digest_368 ?_
    refine gx_lload_n C dX3_digest_371 rfl 0 rfl ?_
    refine gx_lmul C dX3_digest_372 ?_
    refine gx_aload_n C dX3_digest_373 rfl 1 rfl ?_
    refine gx_iload_n C dX3_digest_374 rfl 2 rfl ?_
    refine tm_calli (rest := [.long (31 * x367)]) C hK (fun sz => tk_X3_reason h) (cwV 1 C.t (lw_V q2558 q2560 qs80 q130 q2561) rfl rfl rfl ⟨rfl, dmX3_reason⟩ ⟨Nat.le_of_ble_eq_true rfl, Nat.le_of_ble_eq_true rfl⟩) rfl rfl (Nat.le_of_ble_eq_true rfl) dX3_digest_375 (fun r375 M375 h => ?_)
    refine gx_i2l C dX3_digest_378 rfl ?_
    refine gx_ladd C dX3_digest_379 ?_
    refine gx_lstore_n (lv' := [(1, .long ((31 * x367) + r375.toInt64)), (0, .ref (g 0)), (3, .int a3)]) C dX3_digest_380 rfl (by decide) rfl ?_
    refine gx_ldc2 (v := 31) C (C.t _ q2947) dX3_digest_381 ?_
    refine gx_lload_n C dX3_digest_384 rfl 0 rfl ?_
    refine gx_lmul C dX3_digest_385 ?_
    refine gx_aload_n C dX3_digest_386 rfl 1 rfl ?_
    refine gx_iload_n C dX3_digest_387 rfl 2 rfl ?_
    refine tm_calli (rest := [.long (31 * ((31 * x367) + r375.toInt64))]) C hK (fun sz => tk_X3_young h) (cwV 1 C.t (lw_V q2554 q2556 qs79 q130 q2557) rfl rfl rfl ⟨rfl, dmX3_young⟩ ⟨Nat.le_of_ble_eq_true rfl, Nat.le_of_ble_eq_true rfl⟩) rfl rfl (Nat.le_of_ble_eq_true rfl) dX3_digest_388 (fun r388 M388 h => ?_)
    refine gx_i2l C dX3_digest_391 rfl ?_
    refine gx_ladd C dX3_digest_392 ?_
    refine gx_topl (fun x393 e_x393 => ?_)
    replace h := h x393 e_x393
    refine gx_lstore_n (lv' := [(1, .long x393), (0, .ref (g 0)), (3, .int a3)]) C dX3_digest_393 rfl (by decide) rfl ?_
    refine gx_iinc (v := a3 + 1) (k := 2) (lv' := [(3, .int (a3 + 1)), (1, .long x393), (0, .ref (g 0))]) C dX3_digest_394 rfl rfl (by decide) rfl ?_
    refine gx_goto (tgt := 273) C dX3_digest_397 (by decide) ?_
    refine gx_sub [2, 1, 0] rfl ?_
    exact hk273 M388 x393 (a3 + 1) h
def tl_X3_digest_273 (Q : Int64 → MS → Prop) : Nat → MS → Int64 → Int32 → Prop
  | 0, _, _, _ => False
  | n + 1, M, a1, a3 => tj_X3_digest_273 M a1 a3 (fun M a1 a3 => tl_X3_digest_273 Q n M a1 a3) Q
theorem te_X3_digest_273 {l : Launch} {p : Program} {e : Env} {s : State} {m : MethodId} {args : Array Value} {below : List Frame} {meth : Method} {c : Code} {D : va_G} {g : Nat → Nat} {cI cJ : ClassId} (C : gx_C p s m args meth c cX3_digest 5 (some .long) RX3) (hK : va_K D gcl [(cI, .int), (cJ, .long)] s) {Q : Int64 → MS → Prop}  (n : Nat) : ∀ (M : MS) (a1 : Int64) (a3 : Int32), tl_X3_digest_273 Q n M a1 a3 → gx_W p l e (headSpec (ws_ yX3_digest cX3_digest 5 (some .long)) rmX3_digest).room s m args below meth c 5 (tm_I D g cI cJ s M) 0 0 (MQ below (va_Ql Q (tm_B D g cI cJ s.heap.size) (tm_A g s.heap.size)) args s 0 0 (tm_A g s.heap.size)) 273 [(0, .ref (g 0)), (1, .long a1), (3, .int a3)] [] := by
  induction n with
  | zero => intro M a1 a3 h; exact False.elim h
  | succ n ih => intro M a1 a3 h; exact tb_X3_digest_273 C hK (show tj_X3_digest_273 M a1 a3 (fun M a1 a3 => tl_X3_digest_273 Q n M a1 a3) Q from h) (fun M a1 a3 h => ih M a1 a3 h)
def tj_X3_digest_242 (M : MS) (a1 : Int64) (a3 : Int32) (k242 : MS → Int64 → Int32 → Prop) (Q : Int64 → MS → Prop) : Prop :=
  ((64 ≤ a3 → ∃ n : Nat, tl_X3_digest_273 Q n M a1 0) ∧ (¬ (64 ≤ a3) → (vp_in (80 + a3) 754 ∧ k242 M ((31 * a1) + ((ms_r M 0 (80 + a3)).toInt64)) (a3 + 1))))
theorem tb_X3_digest_242 {l : Launch} {p : Program} {e : Env} {s : State} {m : MethodId} {args : Array Value} {below : List Frame} {meth : Method} {c : Code} {D : va_G} {g : Nat → Nat} {cI cJ : ClassId} (C : gx_C p s m args meth c cX3_digest 5 (some .long) RX3) (hK : va_K D gcl [(cI, .int), (cJ, .long)] s) {M : MS} {a1 : Int64} {a3 : Int32} {k242 : MS → Int64 → Int32 → Prop} {Q : Int64 → MS → Prop} (h : tj_X3_digest_242 M a1 a3 k242 Q) (hk242 : ∀ (M : MS) (a1 : Int64) (a3 : Int32), k242 M a1 a3 → gx_W p l e (headSpec (ws_ yX3_digest cX3_digest 5 (some .long)) rmX3_digest).room s m args below meth c 5 (tm_I D g cI cJ s M) 0 0 (MQ below (va_Ql Q (tm_B D g cI cJ s.heap.size) (tm_A g s.heap.size)) args s 0 0 (tm_A g s.heap.size)) 242 [(0, .ref (g 0)), (1, .long a1), (3, .int a3)] []) : gx_W p l e (headSpec (ws_ yX3_digest cX3_digest 5 (some .long)) rmX3_digest).room s m args below meth c 5 (tm_I D g cI cJ s M) 0 0 (MQ below (va_Ql Q (tm_B D g cI cJ s.heap.size) (tm_A g s.heap.size)) args s 0 0 (tm_A g s.heap.size)) 242 [(0, .ref (g 0)), (1, .long a1), (3, .int a3)] [] := by
  unfold tj_X3_digest_242 at h
  refine gx_iload_n C dX3_digest_242 rfl 2 rfl ?_
  refine gx_bipush (v := 64) C dX3_digest_243 (by decide) ?_
  refine gx_icmp_ge (tgt := 271) C dX3_digest_245 (by decide) (fun z => ?_) (fun z => ?_)
  · replace h := h.1 z
    refine gx_iconst (v := 0) C dX3_digest_271 (by decide) ?_
    refine gx_istore_n (lv' := [(3, .int 0), (0, .ref (g 0)), (1, .long a1)]) C dX3_digest_272 rfl (by decide) rfl ?_
    refine gx_sub [1, 2, 0] rfl ?_
    obtain ⟨n, h⟩ := h
    exact te_X3_digest_273 C hK n M a1 0 h
  · replace h := h.2 z
    refine gx_ldc2 (v := 31) C (C.t _ q2947) dX3_digest_248 ?_
    refine gx_lload_n C dX3_digest_251 rfl 1 rfl ?_
    refine gx_lmul C dX3_digest_252 ?_
    refine gx_aload_n C dX3_digest_253 rfl 0 rfl ?_
    refine tm_get C hK 1 (by decide) q2301 rfl rfl dX3_digest_254 ?_
    refine gx_bipush (v := 80) C dX3_digest_257 (by decide) ?_
    refine gx_iload_n C dX3_digest_259 rfl 2 rfl ?_
    refine gx_iadd C dX3_digest_260 ?_
    obtain ⟨g261, h⟩ := h
    refine tm_ald0 C hK g261 dX3_digest_261 ?_
    refine gx_i2l C dX3_digest_262 rfl ?_
    refine gx_ladd C dX3_digest_263 ?_
    refine gx_lstore_n (lv' := [(1, .long ((31 * a1) + ((ms_r M 0 (80 + a3)).toInt64))), (0, .ref (g 0)), (3, .int a3)]) C dX3_digest_264 rfl (by decide) rfl ?_
    refine gx_iinc (v := a3 + 1) (k := 2) (lv' := [(3, .int (a3 + 1)), (1, .long ((31 * a1) + ((ms_r M 0 (80 + a3)).toInt64))), (0, .ref (g 0))]) C dX3_digest_265 rfl rfl (by decide) rfl ?_
    refine gx_goto (tgt := 242) C dX3_digest_268 (by decide) ?_
    refine gx_sub [2, 1, 0] rfl ?_
    exact hk242 M ((31 * a1) + ((ms_r M 0 (80 + a3)).toInt64)) (a3 + 1) h
def tl_X3_digest_242 (Q : Int64 → MS → Prop) : Nat → MS → Int64 → Int32 → Prop
  | 0, _, _, _ => False
  | n + 1, M, a1, a3 => tj_X3_digest_242 M a1 a3 (fun M a1 a3 => tl_X3_digest_242 Q n M a1 a3) Q
theorem te_X3_digest_242 {l : Launch} {p : Program} {e : Env} {s : State} {m : MethodId} {args : Array Value} {below : List Frame} {meth : Method} {c : Code} {D : va_G} {g : Nat → Nat} {cI cJ : ClassId} (C : gx_C p s m args meth c cX3_digest 5 (some .long) RX3) (hK : va_K D gcl [(cI, .int), (cJ, .long)] s) {Q : Int64 → MS → Prop}  (n : Nat) : ∀ (M : MS) (a1 : Int64) (a3 : Int32), tl_X3_digest_242 Q n M a1 a3 → gx_W p l e (headSpec (ws_ yX3_digest cX3_digest 5 (some .long)) rmX3_digest).room s m args below meth c 5 (tm_I D g cI cJ s M) 0 0 (MQ below (va_Ql Q (tm_B D g cI cJ s.heap.size) (tm_A g s.heap.size)) args s 0 0 (tm_A g s.heap.size)) 242 [(0, .ref (g 0)), (1, .long a1), (3, .int a3)] [] := by
  induction n with
  | zero => intro M a1 a3 h; exact False.elim h
  | succ n ih => intro M a1 a3 h; exact tb_X3_digest_242 C hK (show tj_X3_digest_242 M a1 a3 (fun M a1 a3 => tl_X3_digest_242 Q n M a1 a3) Q from h) (fun M a1 a3 h => ih M a1 a3 h)
def tj_X3_digest_217 (M : MS) (a1 : Int64) (a3 : Int32) (k217 : MS → Int64 → Int32 → Prop) (Q : Int64 → MS → Prop) : Prop :=
  ((3 < a3 → ∃ n : Nat, tl_X3_digest_242 Q n M a1 0) ∧ (¬ (3 < a3) → tw_X3_ofKind M a3 (fun r229 M229 => k217 M229 ((31 * a1) + r229) (a3 + 1))))
theorem tb_X3_digest_217 {l : Launch} {p : Program} {e : Env} {s : State} {m : MethodId} {args : Array Value} {below : List Frame} {meth : Method} {c : Code} {D : va_G} {g : Nat → Nat} {cI cJ : ClassId} (C : gx_C p s m args meth c cX3_digest 5 (some .long) RX3) (hK : va_K D gcl [(cI, .int), (cJ, .long)] s) {M : MS} {a1 : Int64} {a3 : Int32} {k217 : MS → Int64 → Int32 → Prop} {Q : Int64 → MS → Prop} (h : tj_X3_digest_217 M a1 a3 k217 Q) (hk217 : ∀ (M : MS) (a1 : Int64) (a3 : Int32), k217 M a1 a3 → gx_W p l e (headSpec (ws_ yX3_digest cX3_digest 5 (some .long)) rmX3_digest).room s m args below meth c 5 (tm_I D g cI cJ s M) 0 0 (MQ below (va_Ql Q (tm_B D g cI cJ s.heap.size) (tm_A g s.heap.size)) args s 0 0 (tm_A g s.heap.size)) 217 [(0, .ref (g 0)), (1, .long a1), (3, .int a3)] []) : gx_W p l e (headSpec (ws_ yX3_digest cX3_digest 5 (some .long)) rmX3_digest).room s m args below meth c 5 (tm_I D g cI cJ s M) 0 0 (MQ below (va_Ql Q (tm_B D g cI cJ s.heap.size) (tm_A g s.heap.size)) args s 0 0 (tm_A g s.heap.size)) 217 [(0, .ref (g 0)), (1, .long a1), (3, .int a3)] [] := by
  unfold tj_X3_digest_217 at h
  refine gx_iload_n C dX3_digest_217 rfl 2 rfl ?_
  refine gx_iconst (v := 3) C dX3_digest_218 (by decide) ?_
  refine gx_icmp_gt (tgt := 240) C dX3_digest_219 (by decide) (fun z => ?_) (fun z => ?_)
  · replace h := h.1 z
    refine gx_iconst (v := 0) C dX3_digest_240 (by decide) ?_
    refine gx_istore_n (lv' := [(3, .int 0), (0, .ref (g 0)), (1, .long a1)]) C dX3_digest_241 rfl (by decide) rfl ?_
    refine gx_sub [1, 2, 0] rfl ?_
    obtain ⟨n, h⟩ := h
    exact te_X3_digest_242 C hK n M a1 0 h
  · replace h := h.2 z
    refine gx_ldc2 (v := 31) C (C.t _ q2947) dX3_digest_222 ?_
    refine gx_lload_n C dX3_digest_225 rfl 1 rfl ?_
    refine gx_lmul C dX3_digest_226 ?_
    refine gx_aload_n C dX3_digest_227 rfl 0 rfl ?_
    refine gx_iload_n C dX3_digest_228 rfl 2 rfl ?_
    refine tm_calll (rest := [.long (31 * a1)]) C hK (fun sz => tk_X3_ofKind h) (cwV 1 C.t (lw_V q2590 q2592 qs84 q130 q2593) rfl rfl rfl ⟨rfl, dmX3_ofKind⟩ ⟨Nat.le_of_ble_eq_true rfl, Nat.le_of_ble_eq_true rfl⟩) rfl rfl (Nat.le_of_ble_eq_true rfl) dX3_digest_229 (fun r229 M229 h => ?_)
    refine gx_ladd C dX3_digest_232 ?_
    refine gx_lstore_n (lv' := [(1, .long ((31 * a1) + r229)), (0, .ref (g 0)), (3, .int a3)]) C dX3_digest_233 rfl (by decide) rfl ?_
    refine gx_iinc (v := a3 + 1) (k := 2) (lv' := [(3, .int (a3 + 1)), (1, .long ((31 * a1) + r229)), (0, .ref (g 0))]) C dX3_digest_234 rfl rfl (by decide) rfl ?_
    refine gx_goto (tgt := 217) C dX3_digest_237 (by decide) ?_
    refine gx_sub [2, 1, 0] rfl ?_
    exact hk217 M229 ((31 * a1) + r229) (a3 + 1) h
def tl_X3_digest_217 (Q : Int64 → MS → Prop) : Nat → MS → Int64 → Int32 → Prop
  | 0, _, _, _ => False
  | n + 1, M, a1, a3 => tj_X3_digest_217 M a1 a3 (fun M a1 a3 => tl_X3_digest_217 Q n M a1 a3) Q
theorem te_X3_digest_217 {l : Launch} {p : Program} {e : Env} {s : State} {m : MethodId} {args : Array Value} {below : List Frame} {meth : Method} {c : Code} {D : va_G} {g : Nat → Nat} {cI cJ : ClassId} (C : gx_C p s m args meth c cX3_digest 5 (some .long) RX3) (hK : va_K D gcl [(cI, .int), (cJ, .long)] s) {Q : Int64 → MS → Prop}  (n : Nat) : ∀ (M : MS) (a1 : Int64) (a3 : Int32), tl_X3_digest_217 Q n M a1 a3 → gx_W p l e (headSpec (ws_ yX3_digest cX3_digest 5 (some .long)) rmX3_digest).room s m args below meth c 5 (tm_I D g cI cJ s M) 0 0 (MQ below (va_Ql Q (tm_B D g cI cJ s.heap.size) (tm_A g s.heap.size)) args s 0 0 (tm_A g s.heap.size)) 217 [(0, .ref (g 0)), (1, .long a1), (3, .int a3)] [] := by
  induction n with
  | zero => intro M a1 a3 h; exact False.elim h
  | succ n ih => intro M a1 a3 h; exact tb_X3_digest_217 C hK (show tj_X3_digest_217 M a1 a3 (fun M a1 a3 => tl_X3_digest_217 Q n M a1 a3) Q from h) (fun M a1 a3 h => ih M a1 a3 h)
def tj_X3_digest_187 (M : MS) (a1 : Int64) (a3 : Int32) (k187 : MS → Int64 → Int32 → Prop) (Q : Int64 → MS → Prop) : Prop :=
  ((3 < a3 → ∃ n : Nat, tl_X3_digest_217 Q n M a1 0) ∧ (¬ (3 < a3) → (vp_in (10 + a3) 754 ∧ k187 M ((31 * a1) + ((ms_r M 0 (10 + a3)).toInt64)) (a3 + 1))))
theorem tb_X3_digest_187 {l : Launch} {p : Program} {e : Env} {s : State} {m : MethodId} {args : Array Value} {below : List Frame} {meth : Method} {c : Code} {D : va_G} {g : Nat → Nat} {cI cJ : ClassId} (C : gx_C p s m args meth c cX3_digest 5 (some .long) RX3) (hK : va_K D gcl [(cI, .int), (cJ, .long)] s) {M : MS} {a1 : Int64} {a3 : Int32} {k187 : MS → Int64 → Int32 → Prop} {Q : Int64 → MS → Prop} (h : tj_X3_digest_187 M a1 a3 k187 Q) (hk187 : ∀ (M : MS) (a1 : Int64) (a3 : Int32), k187 M a1 a3 → gx_W p l e (headSpec (ws_ yX3_digest cX3_digest 5 (some .long)) rmX3_digest).room s m args below meth c 5 (tm_I D g cI cJ s M) 0 0 (MQ below (va_Ql Q (tm_B D g cI cJ s.heap.size) (tm_A g s.heap.size)) args s 0 0 (tm_A g s.heap.size)) 187 [(0, .ref (g 0)), (1, .long a1), (3, .int a3)] []) : gx_W p l e (headSpec (ws_ yX3_digest cX3_digest 5 (some .long)) rmX3_digest).room s m args below meth c 5 (tm_I D g cI cJ s M) 0 0 (MQ below (va_Ql Q (tm_B D g cI cJ s.heap.size) (tm_A g s.heap.size)) args s 0 0 (tm_A g s.heap.size)) 187 [(0, .ref (g 0)), (1, .long a1), (3, .int a3)] [] := by
  unfold tj_X3_digest_187 at h
  refine gx_iload_n C dX3_digest_187 rfl 2 rfl ?_
  refine gx_iconst (v := 3) C dX3_digest_188 (by decide) ?_
  refine gx_icmp_gt (tgt := 215) C dX3_digest_189 (by decide) (fun z => ?_) (fun z => ?_)
  · replace h := h.1 z
    refine gx_iconst (v := 0) C dX3_digest_215 (by decide) ?_
    refine gx_istore_n (lv' := [(3, .int 0), (0, .ref (g 0)), (1, .long a1)]) C dX3_digest_216 rfl (by decide) rfl ?_
    refine gx_sub [1, 2, 0] rfl ?_
    obtain ⟨n, h⟩ := h
    exact te_X3_digest_217 C hK n M a1 0 h
  · replace h := h.2 z
    refine gx_ldc2 (v := 31) C (C.t _ q2947) dX3_digest_192 ?_
    refine gx_lload_n C dX3_digest_195 rfl 1 rfl ?_
    refine gx_lmul C dX3_digest_196 ?_
    refine gx_aload_n C dX3_digest_197 rfl 0 rfl ?_
    refine tm_get C hK 1 (by decide) q2301 rfl rfl dX3_digest_198 ?_
    refine gx_bipush (v := 10) C dX3_digest_201 (by decide) ?_
    refine gx_iload_n C dX3_digest_203 rfl 2 rfl ?_
    refine gx_iadd C dX3_digest_204 ?_
    obtain ⟨g205, h⟩ := h
    refine tm_ald0 C hK g205 dX3_digest_205 ?_
    refine gx_i2l C dX3_digest_206 rfl ?_
    refine gx_ladd C dX3_digest_207 ?_
    refine gx_lstore_n (lv' := [(1, .long ((31 * a1) + ((ms_r M 0 (10 + a3)).toInt64))), (0, .ref (g 0)), (3, .int a3)]) C dX3_digest_208 rfl (by decide) rfl ?_
    refine gx_iinc (v := a3 + 1) (k := 2) (lv' := [(3, .int (a3 + 1)), (1, .long ((31 * a1) + ((ms_r M 0 (10 + a3)).toInt64))), (0, .ref (g 0))]) C dX3_digest_209 rfl rfl (by decide) rfl ?_
    refine gx_goto (tgt := 187) C dX3_digest_212 (by decide) ?_
    refine gx_sub [2, 1, 0] rfl ?_
    exact hk187 M ((31 * a1) + ((ms_r M 0 (10 + a3)).toInt64)) (a3 + 1) h
def tl_X3_digest_187 (Q : Int64 → MS → Prop) : Nat → MS → Int64 → Int32 → Prop
  | 0, _, _, _ => False
  | n + 1, M, a1, a3 => tj_X3_digest_187 M a1 a3 (fun M a1 a3 => tl_X3_digest_187 Q n M a1 a3) Q
theorem te_X3_digest_187 {l : Launch} {p : Program} {e : Env} {s : State} {m : MethodId} {args : Array Value} {below : List Frame} {meth : Method} {c : Code} {D : va_G} {g : Nat → Nat} {cI cJ : ClassId} (C : gx_C p s m args meth c cX3_digest 5 (some .long) RX3) (hK : va_K D gcl [(cI, .int), (cJ, .long)] s) {Q : Int64 → MS → Prop}  (n : Nat) : ∀ (M : MS) (a1 : Int64) (a3 : Int32), tl_X3_digest_187 Q n M a1 a3 → gx_W p l e (headSpec (ws_ yX3_digest cX3_digest 5 (some .long)) rmX3_digest).room s m args below meth c 5 (tm_I D g cI cJ s M) 0 0 (MQ below (va_Ql Q (tm_B D g cI cJ s.heap.size) (tm_A g s.heap.size)) args s 0 0 (tm_A g s.heap.size)) 187 [(0, .ref (g 0)), (1, .long a1), (3, .int a3)] [] := by
  induction n with
  | zero => intro M a1 a3 h; exact False.elim h
  | succ n ih => intro M a1 a3 h; exact tb_X3_digest_187 C hK (show tj_X3_digest_187 M a1 a3 (fun M a1 a3 => tl_X3_digest_187 Q n M a1 a3) Q from h) (fun M a1 a3 h => ih M a1 a3 h)
def tw_X3_digest (M : MS) (Q : Int64 → MS → Prop) : Prop :=
  tw_X3_laysRanges M (fun M1 => (vp_in 0 754 ∧ tw_X3_allVoles M1 (fun r28 M28 => (∀ x33 : Int64, x33 = (31 * ((31 * 876) + ((ms_r M1 0 0).toInt64))) + r28.toInt64 → (vp_in 1 754 ∧ (vp_in 2 754 ∧ (∀ x61 : Int64, x61 = (31 * ((31 * x33) + ((ms_r M28 0 1).toInt64))) + ((ms_r M28 0 2).toInt64) → (vp_in 3 754 ∧ tw_X3_wandering M28 (fun r82 M82 => (∀ x87 : Int64, x87 = (31 * ((31 * x61) + ((ms_r M28 0 3).toInt64))) + r82.toInt64 → (vp_in 4 754 ∧ tw_X3_eldest M82 (fun r108 M108 => (∀ x113 : Int64, x113 = (31 * ((31 * x87) + ((ms_r M82 0 4).toInt64))) + r108.toInt64 → tw_X3_pairsOfKin M108 (fun r120 M120 => (vp_in 5 754 ∧ (∀ x139 : Int64, x139 = (31 * ((31 * x113) + r120.toInt64)) + ((ms_r M120 0 5).toInt64) → (vp_in 6 754 ∧ (vp_in 7 754 ∧ (∀ x169 : Int64, x169 = (31 * ((31 * x139) + ((ms_r M120 0 6).toInt64))) + ((ms_r M120 0 7).toInt64) → (vp_in 8 754 ∧ ∃ n : Nat, tl_X3_digest_187 Q n M120 ((31 * x169) + ((ms_r M120 0 8).toInt64)) 0))))))))))))))))))))
theorem tk_X3_digest {l : Launch} {D : va_G} {g : Nat → Nat} {cI cJ : ClassId} {sz : Nat} {M : MS} {Q : Int64 → MS → Prop} (h : tw_X3_digest M Q) : tm_Met l yX3_digest cX3_digest 5 (some .long) rmX3_digest [] D g cI cJ sz M (va_Ql Q (tm_B D g cI cJ sz) (tm_A g sz)) := by
  refine tm_entry (by decide) (Nat.le_of_ble_eq_true rfl) (fun p e s m args below meth c hsz C hK => ?_)
  subst hsz
  unfold tw_X3_digest at h
  show gx_W p l e (headSpec (ws_ yX3_digest cX3_digest 5 (some .long)) rmX3_digest).room s m args below meth c 5 (tm_I D g cI cJ s M) 0 0 (MQ below (va_Ql Q (tm_B D g cI cJ s.heap.size) (tm_A g s.heap.size)) args s 0 0 (tm_A g s.heap.size)) 0 [(0, .ref (g 0))] []
  refine gx_aload_n C dX3_digest_0 rfl 0 rfl ?_
  refine tm_callv (rest := []) C hK (fun sz => tk_X3_laysRanges h) (cwV 0 C.t (lw_V q2489 q2491 qs66 q130 q2492) rfl rfl rfl ⟨rfl, dmX3_laysRanges⟩ ⟨Nat.le_of_ble_eq_true rfl, Nat.le_of_ble_eq_true rfl⟩) rfl rfl (Nat.le_of_ble_eq_true rfl) dX3_digest_1 (fun M1 h => ?_)
  refine gx_ldc2 (v := 876) C (C.t _ q2946) dX3_digest_4 ?_
  refine gx_lstore_n (lv' := [(1, .long 876), (0, .ref (g 0))]) C dX3_digest_7 rfl (by decide) rfl ?_
  refine gx_ldc2 (v := 31) C (C.t _ q2947) dX3_digest_8 ?_
  refine gx_lload_n C dX3_digest_11 rfl 0 rfl ?_
  refine gx_lmul C dX3_digest_12 ?_
  refine gx_aload_n C dX3_digest_13 rfl 1 rfl ?_
  refine tm_get C hK 1 (by decide) q2301 rfl rfl dX3_digest_14 ?_
  refine gx_iconst (v := 0) C dX3_digest_17 (by decide) ?_
  obtain ⟨g18, h⟩ := h
  refine tm_ald0 C hK g18 dX3_digest_18 ?_
  refine gx_i2l C dX3_digest_19 rfl ?_
  refine gx_ladd C dX3_digest_20 ?_
  refine gx_lstore_n (lv' := [(1, .long ((31 * 876) + ((ms_r M1 0 0).toInt64))), (0, .ref (g 0))]) C dX3_digest_21 rfl (by decide) rfl ?_
  refine gx_ldc2 (v := 31) C (C.t _ q2947) dX3_digest_22 ?_
  refine gx_lload_n C dX3_digest_25 rfl 0 rfl ?_
  refine gx_lmul C dX3_digest_26 ?_
  refine gx_aload_n C dX3_digest_27 rfl 1 rfl ?_
  refine tm_calli (rest := [.long (31 * ((31 * 876) + ((ms_r M1 0 0).toInt64)))]) C hK (fun sz => tk_X3_allVoles h) (cwV 0 C.t (lw_V q2602 q2604 qs85 q130 q2605) rfl rfl rfl ⟨rfl, dmX3_allVoles⟩ ⟨Nat.le_of_ble_eq_true rfl, Nat.le_of_ble_eq_true rfl⟩) rfl rfl (Nat.le_of_ble_eq_true rfl) dX3_digest_28 (fun r28 M28 h => ?_)
  refine gx_i2l C dX3_digest_31 rfl ?_
  refine gx_ladd C dX3_digest_32 ?_
  refine gx_topl (fun x33 e_x33 => ?_)
  replace h := h x33 e_x33
  refine gx_lstore_n (lv' := [(1, .long x33), (0, .ref (g 0))]) C dX3_digest_33 rfl (by decide) rfl ?_
  refine gx_ldc2 (v := 31) C (C.t _ q2947) dX3_digest_34 ?_
  refine gx_lload_n C dX3_digest_37 rfl 0 rfl ?_
  refine gx_lmul C dX3_digest_38 ?_
  refine gx_aload_n C dX3_digest_39 rfl 1 rfl ?_
  refine tm_get C hK 1 (by decide) q2301 rfl rfl dX3_digest_40 ?_
  refine gx_iconst (v := 1) C dX3_digest_43 (by decide) ?_
  obtain ⟨g44, h⟩ := h
  refine tm_ald0 C hK g44 dX3_digest_44 ?_
  refine gx_i2l C dX3_digest_45 rfl ?_
  refine gx_ladd C dX3_digest_46 ?_
  refine gx_lstore_n (lv' := [(1, .long ((31 * x33) + ((ms_r M28 0 1).toInt64))), (0, .ref (g 0))]) C dX3_digest_47 rfl (by decide) rfl ?_
  refine gx_ldc2 (v := 31) C (C.t _ q2947) dX3_digest_48 ?_
  refine gx_lload_n C dX3_digest_51 rfl 0 rfl ?_
  refine gx_lmul C dX3_digest_52 ?_
  refine gx_aload_n C dX3_digest_53 rfl 1 rfl ?_
  refine tm_get C hK 1 (by decide) q2301 rfl rfl dX3_digest_54 ?_
  refine gx_iconst (v := 2) C dX3_digest_57 (by decide) ?_
  obtain ⟨g58, h⟩ := h
  refine tm_ald0 C hK g58 dX3_digest_58 ?_
  refine gx_i2l C dX3_digest_59 rfl ?_
  refine gx_ladd C dX3_digest_60 ?_
  refine gx_topl (fun x61 e_x61 => ?_)
  replace h := h x61 e_x61
  refine gx_lstore_n (lv' := [(1, .long x61), (0, .ref (g 0))]) C dX3_digest_61 rfl (by decide) rfl ?_
  refine gx_ldc2 (v := 31) C (C.t _ q2947) dX3_digest_62 ?_
  refine gx_lload_n C dX3_digest_65 rfl 0 rfl ?_
  refine gx_lmul C dX3_digest_66 ?_
  refine gx_aload_n C dX3_digest_67 rfl 1 rfl ?_
  refine tm_get C hK 1 (by decide) q2301 rfl rfl dX3_digest_68 ?_
  refine gx_iconst (v := 3) C dX3_digest_71 (by decide) ?_
  obtain ⟨g72, h⟩ := h
  refine tm_ald0 C hK g72 dX3_digest_72 ?_
  refine gx_i2l C dX3_digest_73 rfl ?_
  refine gx_ladd C dX3_digest_74 ?_
  refine gx_lstore_n (lv' := [(1, .long ((31 * x61) + ((ms_r M28 0 3).toInt64))), (0, .ref (g 0))]) C dX3_digest_75 rfl (by decide) rfl ?_
  refine gx_ldc2 (v := 31) C (C.t _ q2947) dX3_digest_76 ?_
  refine gx_lload_n C dX3_digest_79 rfl 0 rfl ?_
  refine gx_lmul C dX3_digest_80 ?_
  refine gx_aload_n C dX3_digest_81 rfl 1 rfl ?_
  refine tm_calli (rest := [.long (31 * ((31 * x61) + ((ms_r M28 0 3).toInt64)))]) C hK (fun sz => tk_X3_wandering h) (cwV 0 C.t (lw_V q2674 q2676 qs87 q130 q2677) rfl rfl rfl ⟨rfl, dmX3_wandering⟩ ⟨Nat.le_of_ble_eq_true rfl, Nat.le_of_ble_eq_true rfl⟩) rfl rfl (Nat.le_of_ble_eq_true rfl) dX3_digest_82 (fun r82 M82 h => ?_)
  refine gx_i2l C dX3_digest_85 rfl ?_
  refine gx_ladd C dX3_digest_86 ?_
  refine gx_topl (fun x87 e_x87 => ?_)
  replace h := h x87 e_x87
  refine gx_lstore_n (lv' := [(1, .long x87), (0, .ref (g 0))]) C dX3_digest_87 rfl (by decide) rfl ?_
  refine gx_ldc2 (v := 31) C (C.t _ q2947) dX3_digest_88 ?_
  refine gx_lload_n C dX3_digest_91 rfl 0 rfl ?_
  refine gx_lmul C dX3_digest_92 ?_
  refine gx_aload_n C dX3_digest_93 rfl 1 rfl ?_
  refine tm_get C hK 1 (by decide) q2301 rfl rfl dX3_digest_94 ?_
  refine gx_iconst (v := 4) C dX3_digest_97 (by decide) ?_
  obtain ⟨g98, h⟩ := h
  refine tm_ald0 C hK g98 dX3_digest_98 ?_
  refine gx_i2l C dX3_digest_99 rfl ?_
  refine gx_ladd C dX3_digest_100 ?_
  refine gx_lstore_n (lv' := [(1, .long ((31 * x87) + ((ms_r M82 0 4).toInt64))), (0, .ref (g 0))]) C dX3_digest_101 rfl (by decide) rfl ?_
  refine gx_ldc2 (v := 31) C (C.t _ q2947) dX3_digest_102 ?_
  refine gx_lload_n C dX3_digest_105 rfl 0 rfl ?_
  refine gx_lmul C dX3_digest_106 ?_
  refine gx_aload_n C dX3_digest_107 rfl 1 rfl ?_
  refine tm_calli (rest := [.long (31 * ((31 * x87) + ((ms_r M82 0 4).toInt64)))]) C hK (fun sz => tk_X3_eldest h) (cwV 0 C.t (lw_V q2718 q2720 qs91 q130 q2721) rfl rfl rfl ⟨rfl, dmX3_eldest⟩ ⟨Nat.le_of_ble_eq_true rfl, Nat.le_of_ble_eq_true rfl⟩) rfl rfl (Nat.le_of_ble_eq_true rfl) dX3_digest_108 (fun r108 M108 h => ?_)
  refine gx_i2l C dX3_digest_111 rfl ?_
  refine gx_ladd C dX3_digest_112 ?_
  refine gx_topl (fun x113 e_x113 => ?_)
  replace h := h x113 e_x113
  refine gx_lstore_n (lv' := [(1, .long x113), (0, .ref (g 0))]) C dX3_digest_113 rfl (by decide) rfl ?_
  refine gx_ldc2 (v := 31) C (C.t _ q2947) dX3_digest_114 ?_
  refine gx_lload_n C dX3_digest_117 rfl 0 rfl ?_
  refine gx_lmul C dX3_digest_118 ?_
  refine gx_aload_n C dX3_digest_119 rfl 1 rfl ?_
  refine tm_calli (rest := [.long (31 * x113)]) C hK (fun sz => tk_X3_pairsOfKin h) (cwV 0 C.t (lw_V q2794 q2796 qs102 q130 q2797) rfl rfl rfl ⟨rfl, dmX3_pairsOfKin⟩ ⟨Nat.le_of_ble_eq_true rfl, Nat.le_of_ble_eq_true rfl⟩) rfl rfl (Nat.le_of_ble_eq_true rfl) dX3_digest_120 (fun r120 M120 h => ?_)
  refine gx_i2l C dX3_digest_123 rfl ?_
  refine gx_ladd C dX3_digest_124 ?_
  refine gx_lstore_n (lv' := [(1, .long ((31 * x113) + r120.toInt64)), (0, .ref (g 0))]) C dX3_digest_125 rfl (by decide) rfl ?_
  refine gx_ldc2 (v := 31) C (C.t _ q2947) dX3_digest_126 ?_
  refine gx_lload_n C dX3_digest_129 rfl 0 rfl ?_
  refine gx_lmul C dX3_digest_130 ?_
  refine gx_aload_n C dX3_digest_131 rfl 1 rfl ?_
  refine tm_get C hK 1 (by decide) q2301 rfl rfl dX3_digest_132 ?_
  refine gx_iconst (v := 5) C dX3_digest_135 (by decide) ?_
  obtain ⟨g136, h⟩ := h
  refine tm_ald0 C hK g136 dX3_digest_136 ?_
  refine gx_i2l C dX3_digest_137 rfl ?_
  refine gx_ladd C dX3_digest_138 ?_
  refine gx_topl (fun x139 e_x139 => ?_)
  replace h := h x139 e_x139
  refine gx_lstore_n (lv' := [(1, .long x139), (0, .ref (g 0))]) C dX3_digest_139 rfl (by decide) rfl ?_
  refine gx_ldc2 (v := 31) C (C.t _ q2947) dX3_digest_140 ?_
  refine gx_lload_n C dX3_digest_143 rfl 0 rfl ?_
  refine gx_lmul C dX3_digest_144 ?_
  refine gx_aload_n C dX3_digest_145 rfl 1 rfl ?_
  refine tm_get C hK 1 (by decide) q2301 rfl rfl dX3_digest_146 ?_
  refine gx_bipush (v := 6) C dX3_digest_149 (by decide) ?_
  obtain ⟨g151, h⟩ := h
  refine tm_ald0 C hK g151 dX3_digest_151 ?_
  refine gx_i2l C dX3_digest_152 rfl ?_
  refine gx_ladd C dX3_digest_153 ?_
  refine gx_lstore_n (lv' := [(1, .long ((31 * x139) + ((ms_r M120 0 6).toInt64))), (0, .ref (g 0))]) C dX3_digest_154 rfl (by decide) rfl ?_
  refine gx_ldc2 (v := 31) C (C.t _ q2947) dX3_digest_155 ?_
  refine gx_lload_n C dX3_digest_158 rfl 0 rfl ?_
  refine gx_lmul C dX3_digest_159 ?_
  refine gx_aload_n C dX3_digest_160 rfl 1 rfl ?_
  refine tm_get C hK 1 (by decide) q2301 rfl rfl dX3_digest_161 ?_
  refine gx_bipush (v := 7) C dX3_digest_164 (by decide) ?_
  obtain ⟨g166, h⟩ := h
  refine tm_ald0 C hK g166 dX3_digest_166 ?_
  refine gx_i2l C dX3_digest_167 rfl ?_
  refine gx_ladd C dX3_digest_168 ?_
  refine gx_topl (fun x169 e_x169 => ?_)
  replace h := h x169 e_x169
  refine gx_lstore_n (lv' := [(1, .long x169), (0, .ref (g 0))]) C dX3_digest_169 rfl (by decide) rfl ?_
  refine gx_ldc2 (v := 31) C (C.t _ q2947) dX3_digest_170 ?_
  refine gx_lload_n C dX3_digest_173 rfl 0 rfl ?_
  refine gx_lmul C dX3_digest_174 ?_
  refine gx_aload_n C dX3_digest_175 rfl 1 rfl ?_
  refine tm_get C hK 1 (by decide) q2301 rfl rfl dX3_digest_176 ?_
  refine gx_bipush (v := 8) C dX3_digest_179 (by decide) ?_
  obtain ⟨g181, h⟩ := h
  refine tm_ald0 C hK g181 dX3_digest_181 ?_
  refine gx_i2l C dX3_digest_182 rfl ?_
  refine gx_ladd C dX3_digest_183 ?_
  refine gx_lstore_n (lv' := [(1, .long ((31 * x169) + ((ms_r M120 0 8).toInt64))), (0, .ref (g 0))]) C dX3_digest_184 rfl (by decide) rfl ?_
  refine gx_iconst (v := 0) C dX3_digest_185 (by decide) ?_
  refine gx_istore_n (lv' := [(3, .int 0), (1, .long ((31 * x169) + ((ms_r M120 0 8).toInt64))), (0, .ref (g 0))]) C dX3_digest_186 rfl (by decide) rfl ?_
  refine gx_sub [2, 1, 0] rfl ?_
  obtain ⟨n, h⟩ := h
  exact te_X3_digest_187 C hK n M120 ((31 * x169) + ((ms_r M120 0 8).toInt64)) 0 h
