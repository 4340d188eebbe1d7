set_option maxRecDepth 100000
set_option maxHeartbeats 4000000
/-! crowd(I)I -/
abbrev rmX3_crowd : Room := { frames := 3, cells := 0, slots := 0, locals := 67 }
theorem dmX3_crowd : yX3_crowd.cls ≠ "java/lang/invoke/MethodHandle" ∧ yX3_crowd.cls ≠ "java/lang/invoke/VarHandle" ∧ (parseMethodDescriptor yX3_crowd.desc).map (fun d => d.parameters.length) = some 1 := by decide +kernel
def tj_X3_crowd_41 (M : MS) (a1 : Int32) (a3 : Int32) (s0 : Int32) (s1 : Int32) (k4 : MS → Int32 → Int32 → Int32 → Prop) (Q : Int32 → MS → Prop) : Prop :=
  k4 M a1 (s0 + s1) (a3 + 1)
theorem tb_X3_crowd_41 {l : Launch} {p : Program} {e : Env} {s : State} {m : MethodId} {args : Array Value} {below : List Frame} {meth : Method} {c : Code} {D : va_G} {g : Nat → Nat} {cI cJ : ClassId} (C : gx_C p s m args meth c cX3_crowd 4 (some .int) RX3) (hK : va_K D gcl [(cI, .int), (cJ, .long)] s) {M : MS} {a1 : Int32} {a3 : Int32} {s0 : Int32} {s1 : Int32} {k4 : MS → Int32 → Int32 → Int32 → Prop} {Q : Int32 → MS → Prop} (h : tj_X3_crowd_41 M a1 a3 s0 s1 k4 Q) (hk4 : ∀ (M : MS) (a1 : Int32) (a2 : Int32) (a3 : Int32), k4 M a1 a2 a3 → gx_W p l e (headSpec (ws_ yX3_crowd cX3_crowd 4 (some .int)) rmX3_crowd).room s m args below meth c 4 (tm_I D g cI cJ s M) 0 0 (MQ below (va_Qi Q (tm_B D g cI cJ s.heap.size) (tm_A g s.heap.size)) args s 0 0 (tm_A g s.heap.size)) 4 [(0, .ref (g 0)), (1, .int a1), (2, .int a2), (3, .int a3)] []) : gx_W p l e (headSpec (ws_ yX3_crowd cX3_crowd 4 (some .int)) rmX3_crowd).room s m args below meth c 4 (tm_I D g cI cJ s M) 0 0 (MQ below (va_Qi Q (tm_B D g cI cJ s.heap.size) (tm_A g s.heap.size)) args s 0 0 (tm_A g s.heap.size)) 41 [(0, .ref (g 0)), (1, .int a1), (3, .int a3)] [.int s1, .int s0] := by
  unfold tj_X3_crowd_41 at h
  refine gx_iadd C dX3_crowd_41 ?_
  refine gx_istore_n (lv' := [(2, .int (s0 + s1)), (0, .ref (g 0)), (1, .int a1), (3, .int a3)]) C dX3_crowd_42 rfl (by decide) rfl ?_
  refine gx_iinc (v := a3 + 1) (k := 3) (lv' := [(3, .int (a3 + 1)), (2, .int (s0 + s1)), (0, .ref (g 0)), (1, .int a1)]) C dX3_crowd_43 rfl rfl (by decide) rfl ?_
  refine gx_goto (tgt := 4) C dX3_crowd_46 (by decide) ?_
  refine gx_sub [2, 3, 1, 0] rfl ?_
  exact hk4 M a1 (s0 + s1) (a3 + 1) h
def tj_X3_crowd_40 (M : MS) (a1 : Int32) (a3 : Int32) (s0 : Int32) (k4 : MS → Int32 → Int32 → Int32 → Prop) (Q : Int32 → MS → Prop) : Prop :=
  tj_X3_crowd_41 M a1 a3 s0 0 k4 Q
theorem tb_X3_crowd_40 {l : Launch} {p : Program} {e : Env} {s : State} {m : MethodId} {args : Array Value} {below : List Frame} {meth : Method} {c : Code} {D : va_G} {g : Nat → Nat} {cI cJ : ClassId} (C : gx_C p s m args meth c cX3_crowd 4 (some .int) RX3) (hK : va_K D gcl [(cI, .int), (cJ, .long)] s) {M : MS} {a1 : Int32} {a3 : Int32} {s0 : Int32} {k4 : MS → Int32 → Int32 → Int32 → Prop} {Q : Int32 → MS → Prop} (h : tj_X3_crowd_40 M a1 a3 s0 k4 Q) (hk4 : ∀ (M : MS) (a1 : Int32) (a2 : Int32) (a3 : Int32), k4 M a1 a2 a3 → gx_W p l e (headSpec (ws_ yX3_crowd cX3_crowd 4 (some .int)) rmX3_crowd).room s m args below meth c 4 (tm_I D g cI cJ s M) 0 0 (MQ below (va_Qi Q (tm_B D g cI cJ s.heap.size) (tm_A g s.heap.size)) args s 0 0 (tm_A g s.heap.size)) 4 [(0, .ref (g 0)), (1, .int a1), (2, .int a2), (3, .int a3)] []) : gx_W p l e (headSpec (ws_ yX3_crowd cX3_crowd 4 (some .int)) rmX3_crowd).room s m args below meth c 4 (tm_I D g cI cJ s M) 0 0 (MQ below (va_Qi Q (tm_B D g cI cJ s.heap.size) (tm_A g s.heap.size)) args s 0 0 (tm_A g s.heap.size)) 40 [(0, .ref (g 0)), (1, .int a1), (3, .int a3)] [.int s0] := by
  unfold tj_X3_crowd_40 at h
  refine gx_iconst (v := 0) C dX3_crowd_40 (by decide) ?_
  exact tb_X3_crowd_41 C hK h hk4
def tj_X3_crowd_4 (M : MS) (a1 : Int32) (a2 : Int32) (a3 : Int32) (k4 : MS → Int32 → Int32 → Int32 → Prop) (Q : Int32 → MS → Prop) : Prop :=
  (vp_in 2 754 ∧ (((ms_r M 0 2) ≤ a3 → Q a2 M) ∧ (¬ (ms_r M 0 2) ≤ a3 → (vp_in a3 11 ∧ pw_X3_has (ms_q M a3) a1 (fun r22 => ((r22 = 0 → tj_X3_crowd_40 M a1 a3 a2 k4 Q) ∧ (¬ (r22 = 0) → tw_X3_many M a3 (fun r30 M30 => ((r30 ≤ 0 → tj_X3_crowd_40 M30 a1 a3 a2 k4 Q) ∧ (¬ (r30 ≤ 0) → tj_X3_crowd_41 M30 a1 a3 a2 1 k4 Q))))))))))
theorem tb_X3_crowd_4 {l : Launch} {p : Program} {e : Env} {s : State} {m : MethodId} {args : Array Value} {below : List Frame} {meth : Method} {c : Code} {D : va_G} {g : Nat → Nat} {cI cJ : ClassId} (C : gx_C p s m args meth c cX3_crowd 4 (some .int) RX3) (hK : va_K D gcl [(cI, .int), (cJ, .long)] s) {M : MS} {a1 : Int32} {a2 : Int32} {a3 : Int32} {k4 : MS → Int32 → Int32 → Int32 → Prop} {Q : Int32 → MS → Prop} (h : tj_X3_crowd_4 M a1 a2 a3 k4 Q) (hk4 : ∀ (M : MS) (a1 : Int32) (a2 : Int32) (a3 : Int32), k4 M a1 a2 a3 → gx_W p l e (headSpec (ws_ yX3_crowd cX3_crowd 4 (some .int)) rmX3_crowd).room s m args below meth c 4 (tm_I D g cI cJ s M) 0 0 (MQ below (va_Qi Q (tm_B D g cI cJ s.heap.size) (tm_A g s.heap.size)) args s 0 0 (tm_A g s.heap.size)) 4 [(0, .ref (g 0)), (1, .int a1), (2, .int a2), (3, .int a3)] []) : gx_W p l e (headSpec (ws_ yX3_crowd cX3_crowd 4 (some .int)) rmX3_crowd).room s m args below meth c 4 (tm_I D g cI cJ s M) 0 0 (MQ below (va_Qi Q (tm_B D g cI cJ s.heap.size) (tm_A g s.heap.size)) args s 0 0 (tm_A g s.heap.size)) 4 [(0, .ref (g 0)), (1, .int a1), (2, .int a2), (3, .int a3)] [] := by
  unfold tj_X3_crowd_4 at h
  refine gx_iload_n C dX3_crowd_4 rfl 3 rfl ?_
  refine gx_aload_n C dX3_crowd_5 rfl 0 rfl ?_
  refine tm_get C hK 1 (by decide) q2301 rfl rfl dX3_crowd_6 ?_
  refine gx_iconst (v := 2) C dX3_crowd_9 (by decide) ?_
  obtain ⟨g10, h⟩ := h
  refine tm_ald0 C hK g10 dX3_crowd_10 ?_
  refine gx_icmp_ge (tgt := 49) C dX3_crowd_11 (by decide) (fun z => ?_) (fun z => ?_)
  · replace h := h.1 z
    refine gx_iload_n C dX3_crowd_49 rfl 2 rfl ?_
    exact tm_iret C hK h dX3_crowd_50
  · replace h := h.2 z
    refine gx_iload_n C dX3_crowd_14 rfl 2 rfl ?_
    refine gx_aload_n C dX3_crowd_15 rfl 0 rfl ?_
    refine tm_get C hK 7 (by decide) q2307 rfl rfl dX3_crowd_16 ?_
    refine gx_iload_n C dX3_crowd_19 rfl 3 rfl ?_
    obtain ⟨g20, h⟩ := h
    refine tm_lld C hK g20 dX3_crowd_20 ?_
    refine gx_iload_n C dX3_crowd_21 rfl 1 rfl ?_
    refine gx_calls_i (rest := [.int a2]) C (pk_X3_has h) (va_cwS 2 C.t (lw_S q2497 q2498 q130 q2499) rfl rfl rfl dmX3_has ⟨Nat.le_of_ble_eq_true rfl, Nat.le_of_ble_eq_true rfl⟩) rfl rfl (Nat.le_of_ble_eq_true rfl) ⟨Nat.zero_le _, Nat.zero_le _⟩ dX3_crowd_22 (fun r22 h => ?_)
    refine gx_if_eq (tgt := 40) C dX3_crowd_25 (by decide) (fun z => ?_) (fun z => ?_)
    · replace h := h.1 z
      refine gx_sub [0, 1, 3] rfl ?_
      exact tb_X3_crowd_40 C hK h hk4
    · replace h := h.2 z
      refine gx_aload_n C dX3_crowd_28 rfl 0 rfl ?_
      refine gx_iload_n C dX3_crowd_29 rfl 3 rfl ?_
      refine tm_calli (rest := [.int a2]) C hK (fun sz => tk_X3_many h) (cwV 1 C.t (lw_V q2427 q2429 qs55 q130 q2430) rfl rfl rfl ⟨rfl, dmX3_many⟩ ⟨Nat.le_of_ble_eq_true rfl, Nat.le_of_ble_eq_true rfl⟩) rfl rfl (Nat.le_of_ble_eq_true rfl) dX3_crowd_30 (fun r30 M30 h => ?_)
      refine gx_if_le (tgt := 40) C dX3_crowd_33 (by decide) (fun z => ?_) (fun z => ?_)
      · replace h := h.1 z
        refine gx_sub [0, 1, 3] rfl ?_
        exact tb_X3_crowd_40 C hK h hk4
      · replace h := h.2 z
        refine gx_iconst (v := 1) C dX3_crowd_36 (by decide) ?_
        refine gx_goto (tgt := 41) C dX3_crowd_37 (by decide) ?_
        refine gx_sub [0, 1, 3] rfl ?_
        exact tb_X3_crowd_41 C hK h hk4
def tl_X3_crowd_4 (Q : Int32 → MS → Prop) : Nat → MS → Int32 → Int32 → Int32 → Prop
  | 0, _, _, _, _ => False
  | n + 1, M, a1, a2, a3 => tj_X3_crowd_4 M a1 a2 a3 (fun M a1 a2 a3 => tl_X3_crowd_4 Q n M a1 a2 a3) Q
theorem te_X3_crowd_4 {l : Launch} {p : Program} {e : Env} {s : State} {m : MethodId} {args : Array Value} {below : List Frame} {meth : Method} {c : Code} {D : va_G} {g : Nat → Nat} {cI cJ : ClassId} (C : gx_C p s m args meth c cX3_crowd 4 (some .int) RX3) (hK : va_K D gcl [(cI, .int), (cJ, .long)] s) {Q : Int32 → MS → Prop}  (n : Nat) : ∀ (M : MS) (a1 : Int32) (a2 : Int32) (a3 : Int32), tl_X3_crowd_4 Q n M a1 a2 a3 → gx_W p l e (headSpec (ws_ yX3_crowd cX3_crowd 4 (some .int)) rmX3_crowd).room s m args below meth c 4 (tm_I D g cI cJ s M) 0 0 (MQ below (va_Qi Q (tm_B D g cI cJ s.heap.size) (tm_A g s.heap.size)) args s 0 0 (tm_A g s.heap.size)) 4 [(0, .ref (g 0)), (1, .int a1), (2, .int a2), (3, .int a3)] [] := by
  induction n with
  | zero => intro M a1 a2 a3 h; exact False.elim h
  | succ n ih => intro M a1 a2 a3 h; exact tb_X3_crowd_4 C hK (show tj_X3_crowd_4 M a1 a2 a3 (fun M a1 a2 a3 => tl_X3_crowd_4 Q n M a1 a2 a3) Q from h) (fun M a1 a2 a3 h => ih M a1 a2 a3 h)
def tw_X3_crowd (M : MS) (a1 : Int32) (Q : Int32 → MS → Prop) : Prop :=
  ∃ n : Nat, tl_X3_crowd_4 Q n M a1 0 0
theorem tk_X3_crowd {l : Launch} {D : va_G} {g : Nat → Nat} {cI cJ : ClassId} {sz : Nat} {M : MS} {a1 : Int32} {Q : Int32 → MS → Prop} (h : tw_X3_crowd M a1 Q) : tm_Met l yX3_crowd cX3_crowd 4 (some .int) rmX3_crowd [.int a1] D g cI cJ sz M (va_Qi Q (tm_B D g cI cJ sz) (tm_A g sz)) := by
  refine tm_entry (by decide) (Nat.le_of_ble_eq_true rfl) (fun p e s m args below meth c hsz C hK => ?_)
  subst hsz
  unfold tw_X3_crowd at h
  show gx_W p l e (headSpec (ws_ yX3_crowd cX3_crowd 4 (some .int)) rmX3_crowd).room s m args below meth c 4 (tm_I D g cI cJ s M) 0 0 (MQ below (va_Qi Q (tm_B D g cI cJ s.heap.size) (tm_A g s.heap.size)) args s 0 0 (tm_A g s.heap.size)) 0 [(0, .ref (g 0)), (1, .int a1)] []
  refine gx_iconst (v := 0) C dX3_crowd_0 (by decide) ?_
  refine gx_istore_n (lv' := [(2, .int 0), (0, .ref (g 0)), (1, .int a1)]) C dX3_crowd_1 rfl (by decide) rfl ?_
  refine gx_iconst (v := 0) C dX3_crowd_2 (by decide) ?_
  refine gx_istore_n (lv' := [(3, .int 0), (2, .int 0), (0, .ref (g 0)), (1, .int a1)]) C dX3_crowd_3 rfl (by decide) rfl ?_
  refine gx_sub [2, 3, 1, 0] rfl ?_
  obtain ⟨n, h⟩ := h
  exact te_X3_crowd_4 C hK n M a1 0 0 h
/-! shareIn(JI)I -/
abbrev rmX3_shareIn : Room := { frames := 4, cells := 0, slots := 0, locals := 90 }
theorem dmX3_shareIn : yX3_shareIn.cls ≠ "java/lang/invoke/MethodHandle" ∧ yX3_shareIn.cls ≠ "java/lang/invoke/VarHandle" ∧ (parseMethodDescriptor yX3_shareIn.desc).map (fun d => d.parameters.length) = some 2 := by decide +kernel
def tj_X3_shareIn_47 (M : MS) (a1 : Int64) (a3 : Int32) (a5 : Int32) (s0 : Int32) (s1 : Int32) (k6 : MS → Int64 → Int32 → Int32 → Int32 → Prop) (Q : Int32 → MS → Prop) : Prop :=
  k6 M a1 a3 (s0 + s1) (a5 + 1)
theorem tb_X3_shareIn_47 {l : Launch} {p : Program} {e : Env} {s : State} {m : MethodId} {args : Array Value} {below : List Frame} {meth : Method} {c : Code} {D : va_G} {g : Nat → Nat} {cI cJ : ClassId} (C : gx_C p s m args meth c cX3_shareIn 6 (some .int) RX3) (hK : va_K D gcl [(cI, .int), (cJ, .long)] s) {M : MS} {a1 : Int64} {a3 : Int32} {a5 : Int32} {s0 : Int32} {s1 : Int32} {k6 : MS → Int64 → Int32 → Int32 → Int32 → Prop} {Q : Int32 → MS → Prop} (h : tj_X3_shareIn_47 M a1 a3 a5 s0 s1 k6 Q) (hk6 : ∀ (M : MS) (a1 : Int64) (a3 : Int32) (a4 : Int32) (a5 : Int32), k6 M a1 a3 a4 a5 → gx_W p l e (headSpec (ws_ yX3_shareIn cX3_shareIn 6 (some .int)) rmX3_shareIn).room s m args below meth c 6 (tm_I D g cI cJ s M) 0 0 (MQ below (va_Qi Q (tm_B D g cI cJ s.heap.size) (tm_A g s.heap.size)) args s 0 0 (tm_A g s.heap.size)) 6 [(0, .ref (g 0)), (1, .long a1), (3, .int a3), (4, .int a4), (5, .int a5)] []) : gx_W p l e (headSpec (ws_ yX3_shareIn cX3_shareIn 6 (some .int)) rmX3_shareIn).room s m args below meth c 6 (tm_I D g cI cJ s M) 0 0 (MQ below (va_Qi Q (tm_B D g cI cJ s.heap.size) (tm_A g s.heap.size)) args s 0 0 (tm_A g s.heap.size)) 47 [(0, .ref (g 0)), (1, .long a1), (3, .int a3), (5, .int a5)] [.int s1, .int s0] := by
  unfold tj_X3_shareIn_47 at h
  refine gx_iadd C dX3_shareIn_47 ?_
  refine gx_istore (lv' := [(4, .int (s0 + s1)), (0, .ref (g 0)), (1, .long a1), (3, .int a3), (5, .int a5)]) C dX3_shareIn_48 (by decide) rfl ?_
  refine gx_iinc (v := a5 + 1) (k := 4) (lv' := [(5, .int (a5 + 1)), (4, .int (s0 + s1)), (0, .ref (g 0)), (1, .long a1), (3, .int a3)]) C dX3_shareIn_50 rfl rfl (by decide) rfl ?_
  refine gx_goto (tgt := 6) C dX3_shareIn_53 (by decide) ?_
  refine gx_sub [2, 3, 4, 1, 0] rfl ?_
  exact hk6 M a1 a3 (s0 + s1) (a5 + 1) h
def tj_X3_shareIn_6 (M : MS) (a1 : Int64) (a3 : Int32) (a4 : Int32) (a5 : Int32) (k6 : MS → Int64 → Int32 → Int32 → Int32 → Prop) (Q : Int32 → MS → Prop) : Prop :=
  ((64 ≤ a5 → Q a4 M) ∧ (¬ (64 ≤ a5) → pw_X3_has a1 a5 (fun r18 => ((r18 = 0 → tj_X3_shareIn_47 M a1 a3 a5 a4 0 k6 Q) ∧ (¬ (r18 = 0) → (vp_in (80 + a5) 754 ∧ tw_X3_crowd M a5 (fun r37 M37 => (¬ (r37 + a3) = 0 ∧ tj_X3_shareIn_47 M37 a1 a3 a5 a4 ((ms_r M 0 (80 + a5)) / (r37 + a3)) k6 Q))))))))
theorem tb_X3_shareIn_6 {l : Launch} {p : Program} {e : Env} {s : State} {m : MethodId} {args : Array Value} {below : List Frame} {meth : Method} {c : Code} {D : va_G} {g : Nat → Nat} {cI cJ : ClassId} (C : gx_C p s m args meth c cX3_shareIn 6 (some .int) RX3) (hK : va_K D gcl [(cI, .int), (cJ, .long)] s) {M : MS} {a1 : Int64} {a3 : Int32} {a4 : Int32} {a5 : Int32} {k6 : MS → Int64 → Int32 → Int32 → Int32 → Prop} {Q : Int32 → MS → Prop} (h : tj_X3_shareIn_6 M a1 a3 a4 a5 k6 Q) (hk6 : ∀ (M : MS) (a1 : Int64) (a3 : Int32) (a4 : Int32) (a5 : Int32), k6 M a1 a3 a4 a5 → gx_W p l e (headSpec (ws_ yX3_shareIn cX3_shareIn 6 (some .int)) rmX3_shareIn).room s m args below meth c 6 (tm_I D g cI cJ s M) 0 0 (MQ below (va_Qi Q (tm_B D g cI cJ s.heap.size) (tm_A g s.heap.size)) args s 0 0 (tm_A g s.heap.size)) 6 [(0, .ref (g 0)), (1, .long a1), (3, .int a3), (4, .int a4), (5, .int a5)] []) : gx_W p l e (headSpec (ws_ yX3_shareIn cX3_shareIn 6 (some .int)) rmX3_shareIn).room s m args below meth c 6 (tm_I D g cI cJ s M) 0 0 (MQ below (va_Qi Q (tm_B D g cI cJ s.heap.size) (tm_A g s.heap.size)) args s 0 0 (tm_A g s.heap.size)) 6 [(0, .ref (g 0)), (1, .long a1), (3, .int a3), (4, .int a4), (5, .int a5)] [] := by
  unfold tj_X3_shareIn_6 at h
  refine gx_iload C dX3_shareIn_6 4 rfl ?_
  refine gx_bipush (v := 64) C dX3_shareIn_8 (by decide) ?_
  refine gx_icmp_ge (tgt := 56) C dX3_shareIn_10 (by decide) (fun z => ?_) (fun z => ?_)
  · replace h := h.1 z
    refine gx_iload C dX3_shareIn_56 3 rfl ?_
    exact tm_iret C hK h dX3_shareIn_58
  · replace h := h.2 z
    refine gx_iload C dX3_shareIn_13 3 rfl ?_
    refine gx_lload_n C dX3_shareIn_15 rfl 1 rfl ?_
    refine gx_iload C dX3_shareIn_16 4 rfl ?_
    refine gx_calls_i (rest := [.int a4]) C (pk_X3_has h) (va_cwS 2 C.t (lw_S q2497 q2498 q130 q2499) rfl rfl rfl dmX3_has ⟨Nat.le_of_ble_eq_true rfl, Nat.le_of_ble_eq_true rfl⟩) rfl rfl (Nat.le_of_ble_eq_true rfl) ⟨Nat.zero_le _, Nat.zero_le _⟩ dX3_shareIn_18 (fun r18 h => ?_)
    refine gx_if_eq (tgt := 46) C dX3_shareIn_21 (by decide) (fun z => ?_) (fun z => ?_)
    · replace h := h.1 z
      refine gx_iconst (v := 0) C dX3_shareIn_46 (by decide) ?_
      refine gx_sub [0, 1, 2, 4] rfl ?_
      exact tb_X3_shareIn_47 C hK h hk6
    · replace h := h.2 z
      refine gx_aload_n C dX3_shareIn_24 rfl 0 rfl ?_
      refine tm_get C hK 1 (by decide) q2301 rfl rfl dX3_shareIn_25 ?_
      refine gx_bipush (v := 80) C dX3_shareIn_28 (by decide) ?_
      refine gx_iload C dX3_shareIn_30 4 rfl ?_
      refine gx_iadd C dX3_shareIn_32 ?_
      obtain ⟨g33, h⟩ := h
      refine tm_ald0 C hK g33 dX3_shareIn_33 ?_
      refine gx_aload_n C dX3_shareIn_34 rfl 0 rfl ?_
      refine gx_iload C dX3_shareIn_35 4 rfl ?_
      refine tm_calli (rest := [.int (ms_r M 0 (80 + a5)), .int a4]) C hK (fun sz => tk_X3_crowd h) (cwV 1 C.t (lw_V q2525 q2527 qs72 q130 q2528) rfl rfl rfl ⟨rfl, dmX3_crowd⟩ ⟨Nat.le_of_ble_eq_true rfl, Nat.le_of_ble_eq_true rfl⟩) rfl rfl (Nat.le_of_ble_eq_true rfl) dX3_shareIn_37 (fun r37 M37 h => ?_)
      refine gx_iload_n C dX3_shareIn_40 rfl 2 rfl ?_
      refine gx_iadd C dX3_shareIn_41 ?_
      obtain ⟨g42, h⟩ := h
      refine gx_idiv C dX3_shareIn_42 g42 ?_
      refine gx_goto (tgt := 47) C dX3_shareIn_43 (by decide) ?_
      refine gx_sub [0, 1, 2, 4] rfl ?_
      exact tb_X3_shareIn_47 C hK h hk6
def tl_X3_shareIn_6 (Q : Int32 → MS → Prop) : Nat → MS → Int64 → Int32 → Int32 → Int32 → Prop
  | 0, _, _, _, _, _ => False
  | n + 1, M, a1, a3, a4, a5 => tj_X3_shareIn_6 M a1 a3 a4 a5 (fun M a1 a3 a4 a5 => tl_X3_shareIn_6 Q n M a1 a3 a4 a5) Q
theorem te_X3_shareIn_6 {l : Launch} {p : Program} {e : Env} {s : State} {m : MethodId} {args : Array Value} {below : List Frame} {meth : Method} {c : Code} {D : va_G} {g : Nat → Nat} {cI cJ : ClassId} (C : gx_C p s m args meth c cX3_shareIn 6 (some .int) RX3) (hK : va_K D gcl [(cI, .int), (cJ, .long)] s) {Q : Int32 → MS → Prop}  (n : Nat) : ∀ (M : MS) (a1 : Int64) (a3 : Int32) (a4 : Int32) (a5 : Int32), tl_X3_shareIn_6 Q n M a1 a3 a4 a5 → gx_W p l e (headSpec (ws_ yX3_shareIn cX3_shareIn 6 (some .int)) rmX3_shareIn).room s m args below meth c 6 (tm_I D g cI cJ s M) 0 0 (MQ below (va_Qi Q (tm_B D g cI cJ s.heap.size) (tm_A g s.heap.size)) args s 0 0 (tm_A g s.heap.size)) 6 [(0, .ref (g 0)), (1, .long a1), (3, .int a3), (4, .int a4), (5, .int a5)] [] := by
  induction n with
  | zero => intro M a1 a3 a4 a5 h; exact False.elim h
  | succ n ih => intro M a1 a3 a4 a5 h; exact tb_X3_shareIn_6 C hK (show tj_X3_shareIn_6 M a1 a3 a4 a5 (fun M a1 a3 a4 a5 => tl_X3_shareIn_6 Q n M a1 a3 a4 a5) Q from h) (fun M a1 a3 a4 a5 h => ih M a1 a3 a4 a5 h)
def tw_X3_shareIn (M : MS) (a1 : Int64) (a3 : Int32) (Q : Int32 → MS → Prop) : Prop :=
  ∃ n : Nat, tl_X3_shareIn_6 Q n M a1 a3 0 0
theorem tk_X3_shareIn {l : Launch} {D : va_G} {g : Nat → Nat} {cI cJ : ClassId} {sz : Nat} {M : MS} {a1 : Int64} {a3 : Int32} {Q : Int32 → MS → Prop} (h : tw_X3_shareIn M a1 a3 Q) : tm_Met l yX3_shareIn cX3_shareIn 6 (some .int) rmX3_shareIn [.long a1, .int a3] D g cI cJ sz M (va_Qi Q (tm_B D g cI cJ sz) (tm_A g sz)) := by
  refine tm_entry (by decide) (Nat.le_of_ble_eq_true rfl) (fun p e s m args below meth c hsz C hK => ?_)
  subst hsz
  unfold tw_X3_shareIn at h
  show gx_W p l e (headSpec (ws_ yX3_shareIn cX3_shareIn 6 (some .int)) rmX3_shareIn).room s m args below meth c 6 (tm_I D g cI cJ s M) 0 0 (MQ below (va_Qi Q (tm_B D g cI cJ s.heap.size) (tm_A g s.heap.size)) args s 0 0 (tm_A g s.heap.size)) 0 [(0, .ref (g 0)), (1, .long a1), (3, .int a3)] []
  refine gx_iconst (v := 0) C dX3_shareIn_0 (by decide) ?_
  refine gx_istore (lv' := [(4, .int 0), (0, .ref (g 0)), (1, .long a1), (3, .int a3)]) C dX3_shareIn_1 (by decide) rfl ?_
  refine gx_iconst (v := 0) C dX3_shareIn_3 (by decide) ?_
  refine gx_istore (lv' := [(5, .int 0), (4, .int 0), (0, .ref (g 0)), (1, .long a1), (3, .int a3)]) C dX3_shareIn_4 (by decide) rfl ?_
  refine gx_sub [2, 3, 4, 1, 0] rfl ?_
  obtain ⟨n, h⟩ := h
  exact te_X3_shareIn_6 C hK n M a1 a3 0 0 h
/-! share(I)I -/
abbrev rmX3_share : Room := { frames := 5, cells := 0, slots := 0, locals := 115 }
theorem dmX3_share : yX3_share.cls ≠ "java/lang/invoke/MethodHandle" ∧ yX3_share.cls ≠ "java/lang/invoke/VarHandle" ∧ (parseMethodDescriptor yX3_share.desc).map (fun d => d.parameters.length) = some 1 := by decide +kernel
def tw_X3_share (M : MS) (a1 : Int32) (Q : Int32 → MS → Prop) : Prop :=
  (vp_in a1 11 ∧ tw_X3_many M a1 (fun r9 M9 => tw_X3_shareIn M9 (ms_q M a1) (if r9 ≤ 0 then 1 else 0) (fun r20 M20 => Q r20 M20)))
theorem tk_X3_share {l : Launch} {D : va_G} {g : Nat → Nat} {cI cJ : ClassId} {sz : Nat} {M : MS} {a1 : Int32} {Q : Int32 → MS → Prop} (h : tw_X3_share M a1 Q) : tm_Met l yX3_share cX3_share 2 (some .int) rmX3_share [.int a1] D g cI cJ sz M (va_Qi Q (tm_B D g cI cJ sz) (tm_A g sz)) := by
  refine tm_entry (by decide) (Nat.le_of_ble_eq_true rfl) (fun p e s m args below meth c hsz C hK => ?_)
  subst hsz
  unfold tw_X3_share at h
  show gx_W p l e (headSpec (ws_ yX3_share cX3_share 2 (some .int)) rmX3_share).room s m args below meth c 2 (tm_I D g cI cJ s M) 0 0 (MQ below (va_Qi Q (tm_B D g cI cJ s.heap.size) (tm_A g s.heap.size)) args s 0 0 (tm_A g s.heap.size)) 0 [(0, .ref (g 0)), (1, .int a1)] []
  refine gx_aload_n C dX3_share_0 rfl 0 rfl ?_
  refine gx_aload_n C dX3_share_1 rfl 0 rfl ?_
  refine tm_get C hK 7 (by decide) q2307 rfl rfl dX3_share_2 ?_
  refine gx_iload_n C dX3_share_5 rfl 1 rfl ?_
  obtain ⟨g6, h⟩ := h
  refine tm_lld C hK g6 dX3_share_6 ?_
  refine gx_aload_n C dX3_share_7 rfl 0 rfl ?_
  refine gx_iload_n C dX3_share_8 rfl 1 rfl ?_
  refine tm_calli (rest := [.long (ms_q M a1), .ref (g 0)]) C hK (fun sz => tk_X3_many h) (cwV 1 C.t (lw_V q2427 q2429 qs55 q130 q2430) rfl rfl rfl ⟨rfl, dmX3_many⟩ ⟨Nat.le_of_ble_eq_true rfl, Nat.le_of_ble_eq_true rfl⟩) rfl rfl (Nat.le_of_ble_eq_true rfl) dX3_share_9 (fun r9 M9 h => ?_)
  refine gx_phii (t := (if r9 ≤ 0 then 1 else 0)) (pc2 := 20) (lv2 := [(0, .ref (g 0)), (1, .int a1)]) (rest2 := [.long (ms_q M a1), .ref (g 0)]) (fun key => ?_) ?_
  · refine gx_if_le (tgt := 19) C dX3_share_12 (by decide) (fun z1 => ?_) (fun z1 => ?_)
    · refine gx_iconst (v := 1) C dX3_share_19 (by decide) ?_
      exact gx_casti (if_pos z1) key
    · refine gx_iconst (v := 0) C dX3_share_15 (by decide) ?_
      refine gx_goto (tgt := 20) C dX3_share_16 (by decide) ?_
      exact gx_casti (if_neg z1) key
  refine tm_calli (rest := []) C hK (fun sz => tk_X3_shareIn h) (cwV 2 C.t (lw_V q2521 q2523 qs71 q130 q2524) rfl rfl rfl ⟨rfl, dmX3_shareIn⟩ ⟨Nat.le_of_ble_eq_true rfl, Nat.le_of_ble_eq_true rfl⟩) rfl rfl (Nat.le_of_ble_eq_true rfl) dX3_share_20 (fun r20 M20 h => ?_)
  exact tm_iret C hK h dX3_share_23
/-! dies(II)V -/
abbrev rmX3_dies : Room := { frames := 2, cells := 0, slots := 0, locals := 46 }
theorem dmX3_dies : yX3_dies.cls ≠ "java/lang/invoke/MethodHandle" ∧ yX3_dies.cls ≠ "java/lang/invoke/VarHandle" ∧ (parseMethodDescriptor yX3_dies.desc).map (fun d => d.parameters.length) = some 2 := by decide +kernel
def tj_X3_dies_72 (M : MS) (a1 : Int32) (a2 : Int32) (Q : MS → Prop) : Prop :=
  (vp_in 9 754 ∧ tw_X3_of M a1 0 (fun r94 M94 => (vp_in (694 + (3 * (ms_r M 0 9))) 754 ∧ ∀ M97 : MS, M97 = ms_a M94 0 (694 + (3 * (ms_r M 0 9))) r94 → (vp_in ((694 + (3 * (ms_r M 0 9))) + 1) 754 ∧ ∀ M106 : MS, M106 = ms_a M97 0 ((694 + (3 * (ms_r M 0 9))) + 1) a2 → (vp_in 0 754 ∧ (vp_in ((694 + (3 * (ms_r M 0 9))) + 2) 754 ∧ ∀ M120 : MS, M120 = ms_a M106 0 ((694 + (3 * (ms_r M 0 9))) + 2) (ms_r M106 0 0) → (vp_in 9 754 ∧ (vp_in 9 754 ∧ ∀ M131 : MS, M131 = ms_a M120 0 9 ((ms_r M120 0 9) + 1) → tw_X3_drops M131 a1 (fun M134 => Q M134)))))))))
theorem tb_X3_dies_72 {l : Launch} {p : Program} {e : Env} {s : State} {m : MethodId} {args : Array Value} {below : List Frame} {meth : Method} {c : Code} {D : va_G} {g : Nat → Nat} {cI cJ : ClassId} (C : gx_C p s m args meth c cX3_dies 4 none RX3) (hK : va_K D gcl [(cI, .int), (cJ, .long)] s) {M : MS} {a1 : Int32} {a2 : Int32} {Q : MS → Prop} (h : tj_X3_dies_72 M a1 a2 Q)  : gx_W p l e (headSpec (ws_ yX3_dies cX3_dies 4 none) rmX3_dies).room s m args below meth c 4 (tm_I D g cI cJ s M) 0 0 (MQ below (va_Qv Q (tm_B D g cI cJ s.heap.size) (tm_A g s.heap.size)) args s 0 0 (tm_A g s.heap.size)) 72 [(0, .ref (g 0)), (1, .int a1), (2, .int a2)] [] := by
  unfold tj_X3_dies_72 at h
  refine gx_sipush (v := 694) C dX3_dies_72 (by decide) ?_
  refine gx_iconst (v := 3) C dX3_dies_75 (by decide) ?_
  refine gx_aload_n C dX3_dies_76 rfl 0 rfl ?_
  refine tm_get C hK 1 (by decide) q2301 rfl rfl dX3_dies_77 ?_
  refine gx_bipush (v := 9) C dX3_dies_80 (by decide) ?_
  obtain ⟨g82, h⟩ := h
  refine tm_ald0 C hK g82 dX3_dies_82 ?_
  refine gx_imul C dX3_dies_83 ?_
  refine gx_iadd C dX3_dies_84 ?_
  refine gx_istore_n (lv' := [(3, .int (694 + (3 * (ms_r M 0 9)))), (0, .ref (g 0)), (1, .int a1), (2, .int a2)]) C dX3_dies_85 rfl (by decide) rfl ?_
  refine gx_aload_n C dX3_dies_86 rfl 1 rfl ?_
  refine tm_get C hK 1 (by decide) q2301 rfl rfl dX3_dies_87 ?_
  refine gx_iload_n C dX3_dies_90 rfl 0 rfl ?_
  refine gx_aload_n C dX3_dies_91 rfl 1 rfl ?_
  refine gx_iload_n C dX3_dies_92 rfl 2 rfl ?_
  refine gx_iconst (v := 0) C dX3_dies_93 (by decide) ?_
  refine tm_calli (rest := [.int (694 + (3 * (ms_r M 0 9))), .ref (g 1)]) C hK (fun sz => tk_X3_of h) (cwV 2 C.t (lw_V q2435 q2437 qs57 q130 q2438) rfl rfl rfl ⟨rfl, dmX3_of⟩ ⟨Nat.le_of_ble_eq_true rfl, Nat.le_of_ble_eq_true rfl⟩) rfl rfl (Nat.le_of_ble_eq_true rfl) dX3_dies_94 (fun r94 M94 h => ?_)
  obtain ⟨g97, h⟩ := h
  refine tm_ast0 C hK g97 dX3_dies_97 (fun M97 e_M97 => ?_)
  replace h := h M97 e_M97
  refine gx_aload_n C dX3_dies_98 rfl 1 rfl ?_
  refine tm_get C hK 1 (by decide) q2301 rfl rfl dX3_dies_99 ?_
  refine gx_iload_n C dX3_dies_102 rfl 0 rfl ?_
  refine gx_iconst (v := 1) C dX3_dies_103 (by decide) ?_
  refine gx_iadd C dX3_dies_104 ?_
  refine gx_iload_n C dX3_dies_105 rfl 3 rfl ?_
  obtain ⟨g106, h⟩ := h
  refine tm_ast0 C hK g106 dX3_dies_106 (fun M106 e_M106 => ?_)
  replace h := h M106 e_M106
  refine gx_aload_n C dX3_dies_107 rfl 1 rfl ?_
  refine tm_get C hK 1 (by decide) q2301 rfl rfl dX3_dies_108 ?_
  refine gx_iload_n C dX3_dies_111 rfl 0 rfl ?_
  refine gx_iconst (v := 2) C dX3_dies_112 (by decide) ?_
  refine gx_iadd C dX3_dies_113 ?_
  refine gx_aload_n C dX3_dies_114 rfl 1 rfl ?_
  refine tm_get C hK 1 (by decide) q2301 rfl rfl dX3_dies_115 ?_
  refine gx_iconst (v := 0) C dX3_dies_118 (by decide) ?_
  obtain ⟨g119, h⟩ := h
  refine tm_ald0 C hK g119 dX3_dies_119 ?_
  obtain ⟨g120, h⟩ := h
  refine tm_ast0 C hK g120 dX3_dies_120 (fun M120 e_M120 => ?_)
  replace h := h M120 e_M120
  refine gx_aload_n C dX3_dies_121 rfl 1 rfl ?_
  refine tm_get C hK 1 (by decide) q2301 rfl rfl dX3_dies_122 ?_
  refine gx_bipush (v := 9) C dX3_dies_125 (by decide) ?_
  refine gx_dup2_11 C dX3_dies_127 rfl rfl ?_
  obtain ⟨g128, h⟩ := h
  refine tm_ald0 C hK g128 dX3_dies_128 ?_
  refine gx_iconst (v := 1) C dX3_dies_129 (by decide) ?_
  refine gx_iadd C dX3_dies_130 ?_
  obtain ⟨g131, h⟩ := h
  refine tm_ast0 C hK g131 dX3_dies_131 (fun M131 e_M131 => ?_)
  replace h := h M131 e_M131
  refine gx_aload_n C dX3_dies_132 rfl 1 rfl ?_
  refine gx_iload_n C dX3_dies_133 rfl 2 rfl ?_
  refine tm_callv (rest := []) C hK (fun sz => tk_X3_drops h) (cwV 1 C.t (lw_V q2470 q2472 qs63 q130 q2473) rfl rfl rfl ⟨rfl, dmX3_drops⟩ ⟨Nat.le_of_ble_eq_true rfl, Nat.le_of_ble_eq_true rfl⟩) rfl rfl (Nat.le_of_ble_eq_true rfl) dX3_dies_134 (fun M134 h => ?_)
  exact tm_vret C hK h dX3_dies_137
def tj_X3_dies_27 (M : MS) (a1 : Int32) (a2 : Int32) (a3 : Int32) (k27 : MS → Int32 → Int32 → Int32 → Prop) (Q : MS → Prop) : Prop :=
  ((57 ≤ a3 → (vp_in 9 754 ∧ (vp_in 9 754 ∧ ∀ M71 : MS, M71 = ms_a M 0 9 ((ms_r M 0 9) - 1) → tj_X3_dies_72 M71 a1 a2 Q))) ∧ (¬ (57 ≤ a3) → (vp_in ((694 + a3) + 3) 754 ∧ (vp_in (694 + a3) 754 ∧ ∀ M54 : MS, M54 = ms_a M 0 (694 + a3) (ms_r M 0 ((694 + a3) + 3)) → k27 M54 a1 a2 (a3 + 1)))))
theorem tb_X3_dies_27 {l : Launch} {p : Program} {e : Env} {s : State} {m : MethodId} {args : Array Value} {below : List Frame} {meth : Method} {c : Code} {D : va_G} {g : Nat → Nat} {cI cJ : ClassId} (C : gx_C p s m args meth c cX3_dies 4 none RX3) (hK : va_K D gcl [(cI, .int), (cJ, .long)] s) {M : MS} {a1 : Int32} {a2 : Int32} {a3 : Int32} {k27 : MS → Int32 → Int32 → Int32 → Prop} {Q : MS → Prop} (h : tj_X3_dies_27 M a1 a2 a3 k27 Q) (hk27 : ∀ (M : MS) (a1 : Int32) (a2 : Int32) (a3 : Int32), k27 M a1 a2 a3 → gx_W p l e (headSpec (ws_ yX3_dies cX3_dies 4 none) rmX3_dies).room s m args below meth c 4 (tm_I D g cI cJ s M) 0 0 (MQ below (va_Qv Q (tm_B D g cI cJ s.heap.size) (tm_A g s.heap.size)) args s 0 0 (tm_A g s.heap.size)) 27 [(0, .ref (g 0)), (1, .int a1), (2, .int a2), (3, .int a3)] []) : gx_W p l e (headSpec (ws_ yX3_dies cX3_dies 4 none) rmX3_dies).room s m args below meth c 4 (tm_I D g cI cJ s M) 0 0 (MQ below (va_Qv Q (tm_B D g cI cJ s.heap.size) (tm_A g s.heap.size)) args s 0 0 (tm_A g s.heap.size)) 27 [(0, .ref (g 0)), (1, .int a1), (2, .int a2), (3, .int a3)] [] := by
  unfold tj_X3_dies_27 at h
  refine gx_iload_n C dX3_dies_27 rfl 3 rfl ?_
  refine gx_bipush (v := 57) C dX3_dies_28 (by decide) ?_
  refine gx_icmp_ge (tgt := 61) C dX3_dies_30 (by decide) (fun z => ?_) (fun z => ?_)
  · replace h := h.1 z
    refine gx_aload_n C dX3_dies_61 rfl 0 rfl ?_
    refine tm_get C hK 1 (by decide) q2301 rfl rfl dX3_dies_62 ?_
    refine gx_bipush (v := 9) C dX3_dies_65 (by decide) ?_
    refine gx_dup2_11 C dX3_dies_67 rfl rfl ?_
    obtain ⟨g68, h⟩ := h
    refine tm_ald0 C hK g68 dX3_dies_68 ?_
    refine gx_iconst (v := 1) C dX3_dies_69 (by decide) ?_
    refine gx_isub C dX3_dies_70 ?_
    obtain ⟨g71, h⟩ := h
    refine tm_ast0 C hK g71 dX3_dies_71 (fun M71 e_M71 => ?_)
    replace h := h M71 e_M71
    refine gx_sub [0, 1, 2] rfl ?_
    exact tb_X3_dies_72 C hK h
  · replace h := h.2 z
    refine gx_aload_n C dX3_dies_33 rfl 0 rfl ?_
    refine tm_get C hK 1 (by decide) q2301 rfl rfl dX3_dies_34 ?_
    refine gx_sipush (v := 694) C dX3_dies_37 (by decide) ?_
    refine gx_iload_n C dX3_dies_40 rfl 3 rfl ?_
    refine gx_iadd C dX3_dies_41 ?_
    refine gx_aload_n C dX3_dies_42 rfl 0 rfl ?_
    refine tm_get C hK 1 (by decide) q2301 rfl rfl dX3_dies_43 ?_
    refine gx_sipush (v := 694) C dX3_dies_46 (by decide) ?_
    refine gx_iload_n C dX3_dies_49 rfl 3 rfl ?_
    refine gx_iadd C dX3_dies_50 ?_
    refine gx_iconst (v := 3) C dX3_dies_51 (by decide) ?_
    refine gx_iadd C dX3_dies_52 ?_
    obtain ⟨g53, h⟩ := h
    refine tm_ald0 C hK g53 dX3_dies_53 ?_
    obtain ⟨g54, h⟩ := h
    refine tm_ast0 C hK g54 dX3_dies_54 (fun M54 e_M54 => ?_)
    replace h := h M54 e_M54
    refine gx_iinc (v := a3 + 1) (k := 3) (lv' := [(3, .int (a3 + 1)), (0, .ref (g 0)), (1, .int a1), (2, .int a2)]) C dX3_dies_55 rfl rfl (by decide) rfl ?_
    refine gx_goto (tgt := 27) C dX3_dies_58 (by decide) ?_
    refine gx_sub [1, 2, 3, 0] rfl ?_
    exact hk27 M54 a1 a2 (a3 + 1) h
def tl_X3_dies_27 (Q : MS → Prop) : Nat → MS → Int32 → Int32 → Int32 → Prop
  | 0, _, _, _, _ => False
  | n + 1, M, a1, a2, a3 => tj_X3_dies_27 M a1 a2 a3 (fun M a1 a2 a3 => tl_X3_dies_27 Q n M a1 a2 a3) Q
theorem te_X3_dies_27 {l : Launch} {p : Program} {e : Env} {s : State} {m : MethodId} {args : Array Value} {below : List Frame} {meth : Method} {c : Code} {D : va_G} {g : Nat → Nat} {cI cJ : ClassId} (C : gx_C p s m args meth c cX3_dies 4 none RX3) (hK : va_K D gcl [(cI, .int), (cJ, .long)] s) {Q : MS → Prop}  (n : Nat) : ∀ (M : MS) (a1 : Int32) (a2 : Int32) (a3 : Int32), tl_X3_dies_27 Q n M a1 a2 a3 → gx_W p l e (headSpec (ws_ yX3_dies cX3_dies 4 none) rmX3_dies).room s m args below meth c 4 (tm_I D g cI cJ s M) 0 0 (MQ below (va_Qv Q (tm_B D g cI cJ s.heap.size) (tm_A g s.heap.size)) args s 0 0 (tm_A g s.heap.size)) 27 [(0, .ref (g 0)), (1, .int a1), (2, .int a2), (3, .int a3)] [] := by
  induction n with
  | zero => intro M a1 a2 a3 h; exact False.elim h
  | succ n ih => intro M a1 a2 a3 h; exact tb_X3_dies_27 C hK (show tj_X3_dies_27 M a1 a2 a3 (fun M a1 a2 a3 => tl_X3_dies_27 Q n M a1 a2 a3) Q from h) (fun M a1 a2 a3 h => ih M a1 a2 a3 h)
def tw_X3_dies (M : MS) (a1 : Int32) (a2 : Int32) (Q : MS → Prop) : Prop :=
  (vp_in (10 + a2) 754 ∧ (vp_in (10 + a2) 754 ∧ ∀ M12 : MS, M12 = ms_a M 0 (10 + a2) ((ms_r M 0 (10 + a2)) + 1) → (vp_in 9 754 ∧ (((ms_r M12 0 9) = 20 → ∃ n : Nat, tl_X3_dies_27 Q n M12 a1 a2 0) ∧ (¬ (ms_r M12 0 9) = 20 → tj_X3_dies_72 M12 a1 a2 Q)))))
theorem tk_X3_dies {l : Launch} {D : va_G} {g : Nat → Nat} {cI cJ : ClassId} {sz : Nat} {M : MS} {a1 : Int32} {a2 : Int32} {Q : MS → Prop} (h : tw_X3_dies M a1 a2 Q) : tm_Met l yX3_dies cX3_dies 4 none rmX3_dies [.int a1, .int a2] D g cI cJ sz M (va_Qv Q (tm_B D g cI cJ sz) (tm_A g sz)) := by
  refine tm_entry (by decide) (Nat.le_of_ble_eq_true rfl) (fun p e s m args below meth c hsz C hK => ?_)
  subst hsz
  unfold tw_X3_dies at h
  show gx_W p l e (headSpec (ws_ yX3_dies cX3_dies 4 none) rmX3_dies).room s m args below meth c 4 (tm_I D g cI cJ s M) 0 0 (MQ below (va_Qv Q (tm_B D g cI cJ s.heap.size) (tm_A g s.heap.size)) args s 0 0 (tm_A g s.heap.size)) 0 [(0, .ref (g 0)), (1, .int a1), (2, .int a2)] []
  refine gx_aload_n C dX3_dies_0 rfl 0 rfl ?_
  refine tm_get C hK 1 (by decide) q2301 rfl rfl dX3_dies_1 ?_
  refine gx_bipush (v := 10) C dX3_dies_4 (by decide) ?_
  refine gx_iload_n C dX3_dies_6 rfl 2 rfl ?_
  refine gx_iadd C dX3_dies_7 ?_
  refine gx_dup2_11 C dX3_dies_8 rfl rfl ?_
  obtain ⟨g9, h⟩ := h
  refine tm_ald0 C hK g9 dX3_dies_9 ?_
  refine gx_iconst (v := 1) C dX3_dies_10 (by decide) ?_
  refine gx_iadd C dX3_dies_11 ?_
  obtain ⟨g12, h⟩ := h
  refine tm_ast0 C hK g12 dX3_dies_12 (fun M12 e_M12 => ?_)
  replace h := h M12 e_M12
  refine gx_aload_n C dX3_dies_13 rfl 0 rfl ?_
  refine tm_get C hK 1 (by decide) q2301 rfl rfl dX3_dies_14 ?_
  refine gx_bipush (v := 9) C dX3_dies_17 (by decide) ?_
  obtain ⟨g19, h⟩ := h
  refine tm_ald0 C hK g19 dX3_dies_19 ?_
  refine gx_bipush (v := 20) C dX3_dies_20 (by decide) ?_
  refine gx_icmp_ne (tgt := 72) C dX3_dies_22 (by decide) (fun z => ?_) (fun z => ?_)
  · replace h := h.2 z
    exact tb_X3_dies_72 C hK h
  · replace h := h.1 z
    refine gx_iconst (v := 0) C dX3_dies_25 (by decide) ?_
    refine gx_istore_n (lv' := [(3, .int 0), (0, .ref (g 0)), (1, .int a1), (2, .int a2)]) C dX3_dies_26 rfl (by decide) rfl ?_
    refine gx_sub [1, 2, 3, 0] rfl ?_
    obtain ⟨n, h⟩ := h
    exact te_X3_dies_27 C hK n M12 a1 a2 0 h
/-! younger(II)I -/
abbrev rmX3_younger : Room := { frames := 1, cells := 0, slots := 0, locals := 22 }
theorem dmX3_younger : yX3_younger.cls ≠ "java/lang/invoke/MethodHandle" ∧ yX3_younger.cls ≠ "java/lang/invoke/VarHandle" ∧ (parseMethodDescriptor yX3_younger.desc).map (fun d => d.parameters.length) = some 2 := by decide +kernel
def tj_X3_younger_42 (M : MS) (s0 : Int32) (Q : Int32 → MS → Prop) : Prop :=
  Q s0 M
theorem tb_X3_younger_42 {l : Launch} {p : Program} {e : Env} {s : State} {m : MethodId} {args : Array Value} {below : List Frame} {meth : Method} {c : Code} {D : va_G} {g : Nat → Nat} {cI cJ : ClassId} (C : gx_C p s m args meth c cX3_younger 4 (some .int) RX3) (hK : va_K D gcl [(cI, .int), (cJ, .long)] s) {M : MS} {s0 : Int32} {Q : Int32 → MS → Prop} (h : tj_X3_younger_42 M s0 Q)  : gx_W p l e (headSpec (ws_ yX3_younger cX3_younger 4 (some .int)) rmX3_younger).room s m args below meth c 4 (tm_I D g cI cJ s M) 0 0 (MQ below (va_Qi Q (tm_B D g cI cJ s.heap.size) (tm_A g s.heap.size)) args s 0 0 (tm_A g s.heap.size)) 42 [] [.int s0] := by
  unfold tj_X3_younger_42 at h
  exact tm_iret C hK h dX3_younger_42
def tj_X3_younger_41 (M : MS) (a2 : Int32) (Q : Int32 → MS → Prop) : Prop :=
  tj_X3_younger_42 M a2 Q
theorem tb_X3_younger_41 {l : Launch} {p : Program} {e : Env} {s : State} {m : MethodId} {args : Array Value} {below : List Frame} {meth : Method} {c : Code} {D : va_G} {g : Nat → Nat} {cI cJ : ClassId} (C : gx_C p s m args meth c cX3_younger 4 (some .int) RX3) (hK : va_K D gcl [(cI, .int), (cJ, .long)] s) {M : MS} {a2 : Int32} {Q : Int32 → MS → Prop} (h : tj_X3_younger_41 M a2 Q)  : gx_W p l e (headSpec (ws_ yX3_younger cX3_younger 4 (some .int)) rmX3_younger).room s m args below meth c 4 (tm_I D g cI cJ s M) 0 0 (MQ below (va_Qi Q (tm_B D g cI cJ s.heap.size) (tm_A g s.heap.size)) args s 0 0 (tm_A g s.heap.size)) 41 [(2, .int a2)] [] := by
  unfold tj_X3_younger_41 at h
  refine gx_iload_n C dX3_younger_41 rfl 0 rfl ?_
  refine gx_sub [] rfl ?_
  exact tb_X3_younger_42 C hK h
def tj_X3_younger_37 (M : MS) (a1 : Int32) (Q : Int32 → MS → Prop) : Prop :=
  tj_X3_younger_42 M a1 Q
theorem tb_X3_younger_37 {l : Launch} {p : Program} {e : Env} {s : State} {m : MethodId} {args : Array Value} {below : List Frame} {meth : Method} {c : Code} {D : va_G} {g : Nat → Nat} {cI cJ : ClassId} (C : gx_C p s m args meth c cX3_younger 4 (some .int) RX3) (hK : va_K D gcl [(cI, .int), (cJ, .long)] s) {M : MS} {a1 : Int32} {Q : Int32 → MS → Prop} (h : tj_X3_younger_37 M a1 Q)  : gx_W p l e (headSpec (ws_ yX3_younger cX3_younger 4 (some .int)) rmX3_younger).room s m args below meth c 4 (tm_I D g cI cJ s M) 0 0 (MQ below (va_Qi Q (tm_B D g cI cJ s.heap.size) (tm_A g s.heap.size)) args s 0 0 (tm_A g s.heap.size)) 37 [(1, .int a1)] [] := by
  unfold tj_X3_younger_37 at h
  refine gx_iload_n C dX3_younger_37 rfl 0 rfl ?_
  refine gx_goto (tgt := 42) C dX3_younger_38 (by decide) ?_
  refine gx_sub [] rfl ?_
  exact tb_X3_younger_42 C hK h
def tw_X3_younger (M : MS) (a1 : Int32) (a2 : Int32) (Q : Int32 → MS → Prop) : Prop :=
  tw_X3_of M a1 2 (fun r3 M3 => tw_X3_of M3 a2 2 (fun r9 M9 => (((r3 - r9) < 0 → tj_X3_younger_37 M9 a1 Q) ∧ (¬ (r3 - r9) < 0 → (((r3 - r9) = 0 → tw_X3_of M9 a1 0 (fun r25 M25 => tw_X3_of M25 a2 0 (fun r31 M31 => ((r25 ≤ r31 → tj_X3_younger_41 M31 a2 Q) ∧ (¬ (r25 ≤ r31) → tj_X3_younger_37 M31 a1 Q))))) ∧ (¬ (r3 - r9) = 0 → tj_X3_younger_41 M9 a2 Q))))))
theorem tk_X3_younger {l : Launch} {D : va_G} {g : Nat → Nat} {cI cJ : ClassId} {sz : Nat} {M : MS} {a1 : Int32} {a2 : Int32} {Q : Int32 → MS → Prop} (h : tw_X3_younger M a1 a2 Q) : tm_Met l yX3_younger cX3_younger 4 (some .int) rmX3_younger [.int a1, .int a2] D g cI cJ sz M (va_Qi Q (tm_B D g cI cJ sz) (tm_A g sz)) := by
  refine tm_entry (by decide) (Nat.le_of_ble_eq_true rfl) (fun p e s m args below meth c hsz C hK => ?_)
  subst hsz
  unfold tw_X3_younger at h
  show gx_W p l e (headSpec (ws_ yX3_younger cX3_younger 4 (some .int)) rmX3_younger).room s m args below meth c 4 (tm_I D g cI cJ s M) 0 0 (MQ below (va_Qi Q (tm_B D g cI cJ s.heap.size) (tm_A g s.heap.size)) args s 0 0 (tm_A g s.heap.size)) 0 [(0, .ref (g 0)), (1, .int a1), (2, .int a2)] []
  refine gx_aload_n C dX3_younger_0 rfl 0 rfl ?_
  refine gx_iload_n C dX3_younger_1 rfl 1 rfl ?_
  refine gx_iconst (v := 2) C dX3_younger_2 (by decide) ?_
  refine tm_calli (rest := []) C hK (fun sz => tk_X3_of h) (cwV 2 C.t (lw_V q2435 q2437 qs57 q130 q2438) rfl rfl rfl ⟨rfl, dmX3_of⟩ ⟨Nat.le_of_ble_eq_true rfl, Nat.le_of_ble_eq_true rfl⟩) rfl rfl (Nat.le_of_ble_eq_true rfl) dX3_younger_3 (fun r3 M3 h => ?_)
  refine gx_aload_n C dX3_younger_6 rfl 0 rfl ?_
  refine gx_iload_n C dX3_younger_7 rfl 2 rfl ?_
  refine gx_iconst (v := 2) C dX3_younger_8 (by decide) ?_
  refine tm_calli (rest := [.int r3]) C hK (fun sz => tk_X3_of h) (cwV 2 C.t (lw_V q2435 q2437 qs57 q130 q2438) rfl rfl rfl ⟨rfl, dmX3_of⟩ ⟨Nat.le_of_ble_eq_true rfl, Nat.le_of_ble_eq_true rfl⟩) rfl rfl (Nat.le_of_ble_eq_true rfl) dX3_younger_9 (fun r9 M9 h => ?_)
  refine gx_isub C dX3_younger_12 ?_
  refine gx_istore_n (lv' := [(3, .int (r3 - r9)), (0, .ref (g 0)), (1, .int a1), (2, .int a2)]) C dX3_younger_13 rfl (by decide) rfl ?_
  refine gx_iload_n C dX3_younger_14 rfl 0 rfl ?_
  refine gx_if_lt (tgt := 37) C dX3_younger_15 (by decide) (fun z => ?_) (fun z => ?_)
  · replace h := h.1 z
    refine gx_sub [2] rfl ?_
    exact tb_X3_younger_37 C hK h
  · replace h := h.2 z
    refine gx_iload_n C dX3_younger_18 rfl 0 rfl ?_
    refine gx_if_ne (tgt := 41) C dX3_younger_19 (by decide) (fun z => ?_) (fun z => ?_)
    · replace h := h.2 z
      refine gx_sub [3] rfl ?_
      exact tb_X3_younger_41 C hK h
    · replace h := h.1 z
      refine gx_aload_n C dX3_younger_22 rfl 1 rfl ?_
      refine gx_iload_n C dX3_younger_23 rfl 2 rfl ?_
      refine gx_iconst (v := 0) C dX3_younger_24 (by decide) ?_
      refine tm_calli (rest := []) C hK (fun sz => tk_X3_of h) (cwV 2 C.t (lw_V q2435 q2437 qs57 q130 q2438) rfl rfl rfl ⟨rfl, dmX3_of⟩ ⟨Nat.le_of_ble_eq_true rfl, Nat.le_of_ble_eq_true rfl⟩) rfl rfl (Nat.le_of_ble_eq_true rfl) dX3_younger_25 (fun r25 M25 h => ?_)
      refine gx_aload_n C dX3_younger_28 rfl 1 rfl ?_
      refine gx_iload_n C dX3_younger_29 rfl 3 rfl ?_
      refine gx_iconst (v := 0) C dX3_younger_30 (by decide) ?_
      refine tm_calli (rest := [.int r25]) C hK (fun sz => tk_X3_of h) (cwV 2 C.t (lw_V q2435 q2437 qs57 q130 q2438) rfl rfl rfl ⟨rfl, dmX3_of⟩ ⟨Nat.le_of_ble_eq_true rfl, Nat.le_of_ble_eq_true rfl⟩) rfl rfl (Nat.le_of_ble_eq_true rfl) dX3_younger_31 (fun r31 M31 h => ?_)
      refine gx_icmp_le (tgt := 41) C dX3_younger_34 (by decide) (fun z => ?_) (fun z => ?_)
      · replace h := h.1 z
        refine gx_sub [3] rfl ?_
        exact tb_X3_younger_41 C hK h
      · replace h := h.2 z
        refine gx_sub [2] rfl ?_
        exact tb_X3_younger_37 C hK h
/-! feeds(I)V -/
abbrev rmX3_feeds : Room := { frames := 6, cells := 0, slots := 0, locals := 136 }
theorem dmX3_feeds : yX3_feeds.cls ≠ "java/lang/invoke/MethodHandle" ∧ yX3_feeds.cls ≠ "java/lang/invoke/VarHandle" ∧ (parseMethodDescriptor yX3_feeds.desc).map (fun d => d.parameters.length) = some 1 := by decide +kernel
def tj_X3_feeds_173 (M : MS) (a4 : Int32) (a5 : Int32) (k173 : MS → Int32 → Int32 → Prop) (Q : MS → Prop) : Prop :=
  ((64 ≤ a5 → Q M) ∧ (¬ (64 ≤ a5) → (vp_in (80 + a5) 754 ∧ (∀ x210 : Int32, x210 = (if a4 ≤ ((ms_r M 0 (80 + a5)) / 1000) then a4 else ((ms_r M 0 (80 + a5)) / 1000)) → (vp_in (80 + a5) 754 ∧ (vp_in (80 + a5) 754 ∧ ∀ M238 : MS, M238 = ms_a M 0 (80 + a5) (((ms_r M 0 (80 + a5)) - (ms_r M 0 (80 + a5)) / 1000 * 1000) - x210) → (vp_in 7 754 ∧ (vp_in 7 754 ∧ ∀ M250 : MS, M250 = ms_a M238 0 7 ((ms_r M238 0 7) + x210) → k173 M250 (a4 - x210) (a5 + 1)))))))))
theorem tb_X3_feeds_173 {l : Launch} {p : Program} {e : Env} {s : State} {m : MethodId} {args : Array Value} {below : List Frame} {meth : Method} {c : Code} {D : va_G} {g : Nat → Nat} {cI cJ : ClassId} (C : gx_C p s m args meth c cX3_feeds 8 none RX3) (hK : va_K D gcl [(cI, .int), (cJ, .long)] s) {M : MS} {a4 : Int32} {a5 : Int32} {k173 : MS → Int32 → Int32 → Prop} {Q : MS → Prop} (h : tj_X3_feeds_173 M a4 a5 k173 Q) (hk173 : ∀ (M : MS) (a4 : Int32) (a5 : Int32), k173 M a4 a5 → gx_W p l e (headSpec (ws_ yX3_feeds cX3_feeds 8 none) rmX3_feeds).room s m args below meth c 8 (tm_I D g cI cJ s M) 0 0 (MQ below (va_Qv Q (tm_B D g cI cJ s.heap.size) (tm_A g s.heap.size)) args s 0 0 (tm_A g s.heap.size)) 173 [(0, .ref (g 0)), (4, .int a4), (5, .int a5)] []) : gx_W p l e (headSpec (ws_ yX3_feeds cX3_feeds 8 none) rmX3_feeds).room s m args below meth c 8 (tm_I D g cI cJ s M) 0 0 (MQ below (va_Qv Q (tm_B D g cI cJ s.heap.size) (tm_A g s.heap.size)) args s 0 0 (tm_A g s.heap.size)) 173 [(0, .ref (g 0)), (4, .int a4), (5, .int a5)] [] := by
  unfold tj_X3_feeds_173 at h
  refine gx_iload C dX3_feeds_173 2 rfl ?_
  refine gx_bipush (v := 64) C dX3_feeds_175 (by decide) ?_
  refine gx_icmp_ge (tgt := 264) C dX3_feeds_177 (by decide) (fun z => ?_) (fun z => ?_)
  · replace h := h.1 z
    exact tm_vret C hK h dX3_feeds_264
  · replace h := h.2 z
    refine gx_aload_n C dX3_feeds_180 rfl 0 rfl ?_
    refine tm_get C hK 1 (by decide) q2301 rfl rfl dX3_feeds_181 ?_
    refine gx_bipush (v := 80) C dX3_feeds_184 (by decide) ?_
    refine gx_iload C dX3_feeds_186 2 rfl ?_
    refine gx_iadd C dX3_feeds_188 ?_
    obtain ⟨g189, h⟩ := h
    refine tm_ald0 C hK g189 dX3_feeds_189 ?_
    refine gx_sipush (v := 1000) C dX3_feeds_190 (by decide) ?_
    refine gx_idiv C dX3_feeds_193 (by decide) ?_
    refine gx_istore (lv' := [(6, .int ((ms_r M 0 (80 + a5)) / 1000)), (0, .ref (g 0)), (4, .int a4), (5, .int a5)]) C dX3_feeds_194 (by decide) rfl ?_
    refine gx_iload C dX3_feeds_196 0 rfl ?_
    refine gx_iload C dX3_feeds_198 2 rfl ?_
    refine gx_phii (t := (if a4 ≤ ((ms_r M 0 (80 + a5)) / 1000) then a4 else ((ms_r M 0 (80 + a5)) / 1000))) (pc2 := 210) (lv2 := [(6, .int ((ms_r M 0 (80 + a5)) / 1000)), (0, .ref (g 0)), (4, .int a4), (5, .int a5)]) (rest2 := []) (fun key => ?_) ?_
    · refine gx_icmp_ge (tgt := 208) C dX3_feeds_200 (by decide) (fun z1 => ?_) (fun z1 => ?_)
      · refine gx_iload C dX3_feeds_208 2 rfl ?_
        exact gx_casti (if_pos z1) key
      · refine gx_iload C dX3_feeds_203 0 rfl ?_
        refine gx_goto (tgt := 210) C dX3_feeds_205 (by decide) ?_
        exact gx_casti (if_neg z1) key
    refine gx_topi (fun x210 e_x210 => ?_)
    replace h := h x210 e_x210
    refine gx_istore (lv' := [(7, .int x210), (6, .int ((ms_r M 0 (80 + a5)) / 1000)), (0, .ref (g 0)), (4, .int a4), (5, .int a5)]) C dX3_feeds_210 (by decide) rfl ?_
    refine gx_aload_n C dX3_feeds_212 rfl 2 rfl ?_
    refine tm_get C hK 1 (by decide) q2301 rfl rfl dX3_feeds_213 ?_
    refine gx_bipush (v := 80) C dX3_feeds_216 (by decide) ?_
    refine gx_iload C dX3_feeds_218 4 rfl ?_
    refine gx_iadd C dX3_feeds_220 ?_
    refine gx_aload_n C dX3_feeds_221 rfl 2 rfl ?_
    refine tm_get C hK 1 (by decide) q2301 rfl rfl dX3_feeds_222 ?_
    refine gx_bipush (v := 80) C dX3_feeds_225 (by decide) ?_
    refine gx_iload C dX3_feeds_227 4 rfl ?_
    refine gx_iadd C dX3_feeds_229 ?_
    obtain ⟨g230, h⟩ := h
    refine tm_ald0 C hK g230 dX3_feeds_230 ?_
    refine gx_sipush (v := 1000) C dX3_feeds_231 (by decide) ?_
    refine gx_irem C dX3_feeds_234 (by decide) ?_
    refine gx_iload C dX3_feeds_235 0 rfl ?_
    refine gx_isub C dX3_feeds_237 ?_
    obtain ⟨g238, h⟩ := h
    refine tm_ast0 C hK g238 dX3_feeds_238 (fun M238 e_M238 => ?_)
    replace h := h M238 e_M238
    refine gx_aload_n C dX3_feeds_239 rfl 2 rfl ?_
    refine tm_get C hK 1 (by decide) q2301 rfl rfl dX3_feeds_240 ?_
    refine gx_bipush (v := 7) C dX3_feeds_243 (by decide) ?_
    refine gx_dup2_11 C dX3_feeds_245 rfl rfl ?_
    obtain ⟨g246, h⟩ := h
    refine tm_ald0 C hK g246 dX3_feeds_246 ?_
    refine gx_iload C dX3_feeds_247 0 rfl ?_
    refine gx_iadd C dX3_feeds_249 ?_
    obtain ⟨g250, h⟩ := h
    refine tm_ast0 C hK g250 dX3_feeds_250 (fun M250 e_M250 => ?_)
    replace h := h M250 e_M250
    refine gx_iload C dX3_feeds_251 3 rfl ?_
    refine gx_iload C dX3_feeds_253 0 rfl ?_
    refine gx_isub C dX3_feeds_255 ?_
    refine gx_istore (lv' := [(4, .int (a4 - x210)), (7, .int x210), (6, .int ((ms_r M 0 (80 + a5)) / 1000)), (0, .ref (g 0)), (5, .int a5)]) C dX3_feeds_256 (by decide) rfl ?_
    refine gx_iinc (v := a5 + 1) (k := 4) (lv' := [(5, .int (a5 + 1)), (4, .int (a4 - x210)), (7, .int x210), (6, .int ((ms_r M 0 (80 + a5)) / 1000)), (0, .ref (g 0))]) C dX3_feeds_258 rfl rfl (by decide) rfl ?_
    refine gx_goto (tgt := 173) C dX3_feeds_261 (by decide) ?_
    refine gx_sub [4, 1, 0] rfl ?_
    exact hk173 M250 (a4 - x210) (a5 + 1) h
def tl_X3_feeds_173 (Q : MS → Prop) : Nat → MS → Int32 → Int32 → Prop
  | 0, _, _, _ => False
  | n + 1, M, a4, a5 => tj_X3_feeds_173 M a4 a5 (fun M a4 a5 => tl_X3_feeds_173 Q n M a4 a5) Q
theorem te_X3_feeds_173 {l : Launch} {p : Program} {e : Env} {s : State} {m : MethodId} {args : Array Value} {below : List Frame} {meth : Method} {c : Code} {D : va_G} {g : Nat → Nat} {cI cJ : ClassId} (C : gx_C p s m args meth c cX3_feeds 8 none RX3) (hK : va_K D gcl [(cI, .int), (cJ, .long)] s) {Q : MS → Prop}  (n : Nat) : ∀ (M : MS) (a4 : Int32) (a5 : Int32), tl_X3_feeds_173 Q n M a4 a5 → gx_W p l e (headSpec (ws_ yX3_feeds cX3_feeds 8 none) rmX3_feeds).room s m args below meth c 8 (tm_I D g cI cJ s M) 0 0 (MQ below (va_Qv Q (tm_B D g cI cJ s.heap.size) (tm_A g s.heap.size)) args s 0 0 (tm_A g s.heap.size)) 173 [(0, .ref (g 0)), (4, .int a4), (5, .int a5)] [] := by
  induction n with
  | zero => intro M a4 a5 h; exact False.elim h
  | succ n ih => intro M a4 a5 h; exact tb_X3_feeds_173 C hK (show tj_X3_feeds_173 M a4 a5 (fun M a4 a5 => tl_X3_feeds_173 Q n M a4 a5) Q from h) (fun M a4 a5 h => ih M a4 a5 h)
def tj_X3_feeds_160 (M : MS) (a1 : Int32) (Q : MS → Prop) : Prop :=
  tw_X3_many M a1 (fun r164 M164 => ∃ n : Nat, tl_X3_feeds_173 Q n M164 (60 * r164) 0)
theorem tb_X3_feeds_160 {l : Launch} {p : Program} {e : Env} {s : State} {m : MethodId} {args : Array Value} {below : List Frame} {meth : Method} {c : Code} {D : va_G} {g : Nat → Nat} {cI cJ : ClassId} (C : gx_C p s m args meth c cX3_feeds 8 none RX3) (hK : va_K D gcl [(cI, .int), (cJ, .long)] s) {M : MS} {a1 : Int32} {Q : MS → Prop} (h : tj_X3_feeds_160 M a1 Q)  : gx_W p l e (headSpec (ws_ yX3_feeds cX3_feeds 8 none) rmX3_feeds).room s m args below meth c 8 (tm_I D g cI cJ s M) 0 0 (MQ below (va_Qv Q (tm_B D g cI cJ s.heap.size) (tm_A g s.heap.size)) args s 0 0 (tm_A g s.heap.size)) 160 [(0, .ref (g 0)), (1, .int a1)] [] := by
  unfold tj_X3_feeds_160 at h
  refine gx_bipush (v := 60) C dX3_feeds_160 (by decide) ?_
  refine gx_aload_n C dX3_feeds_162 rfl 0 rfl ?_
  refine gx_iload_n C dX3_feeds_163 rfl 1 rfl ?_
  refine tm_calli (rest := [.int 60]) C hK (fun sz => tk_X3_many h) (cwV 1 C.t (lw_V q2427 q2429 qs55 q130 q2430) rfl rfl rfl ⟨rfl, dmX3_many⟩ ⟨Nat.le_of_ble_eq_true rfl, Nat.le_of_ble_eq_true rfl⟩) rfl rfl (Nat.le_of_ble_eq_true rfl) dX3_feeds_164 (fun r164 M164 h => ?_)
  refine gx_imul C dX3_feeds_167 ?_
  refine gx_istore (lv' := [(4, .int (60 * r164)), (0, .ref (g 0)), (1, .int a1)]) C dX3_feeds_168 (by decide) rfl ?_
  refine gx_iconst (v := 0) C dX3_feeds_170 (by decide) ?_
  refine gx_istore (lv' := [(5, .int 0), (4, .int (60 * r164)), (0, .ref (g 0)), (1, .int a1)]) C dX3_feeds_171 (by decide) rfl ?_
  refine gx_sub [2, 1, 0] rfl ?_
  obtain ⟨n, h⟩ := h
  exact te_X3_feeds_173 C hK n M164 (60 * r164) 0 h
def tj_X3_feeds_122 (M : MS) (a1 : Int32) (a4 : Int32) (k94 : MS → Int32 → Int32 → Prop) (Q : MS → Prop) : Prop :=
  k94 M a1 (a4 + 1)
theorem tb_X3_feeds_122 {l : Launch} {p : Program} {e : Env} {s : State} {m : MethodId} {args : Array Value} {below : List Frame} {meth : Method} {c : Code} {D : va_G} {g : Nat → Nat} {cI cJ : ClassId} (C : gx_C p s m args meth c cX3_feeds 8 none RX3) (hK : va_K D gcl [(cI, .int), (cJ, .long)] s) {M : MS} {a1 : Int32} {a4 : Int32} {k94 : MS → Int32 → Int32 → Prop} {Q : MS → Prop} (h : tj_X3_feeds_122 M a1 a4 k94 Q) (hk94 : ∀ (M : MS) (a1 : Int32) (a4 : Int32), k94 M a1 a4 → gx_W p l e (headSpec (ws_ yX3_feeds cX3_feeds 8 none) rmX3_feeds).room s m args below meth c 8 (tm_I D g cI cJ s M) 0 0 (MQ below (va_Qv Q (tm_B D g cI cJ s.heap.size) (tm_A g s.heap.size)) args s 0 0 (tm_A g s.heap.size)) 94 [(0, .ref (g 0)), (1, .int a1), (4, .int a4)] []) : gx_W p l e (headSpec (ws_ yX3_feeds cX3_feeds 8 none) rmX3_feeds).room s m args below meth c 8 (tm_I D g cI cJ s M) 0 0 (MQ below (va_Qv Q (tm_B D g cI cJ s.heap.size) (tm_A g s.heap.size)) args s 0 0 (tm_A g s.heap.size)) 122 [(0, .ref (g 0)), (1, .int a1), (4, .int a4)] [] := by
  unfold tj_X3_feeds_122 at h
  refine gx_iinc (v := a4 + 1) (k := 2) (lv' := [(4, .int (a4 + 1)), (0, .ref (g 0)), (1, .int a1)]) C dX3_feeds_122 rfl rfl (by decide) rfl ?_
  refine gx_goto (tgt := 94) C dX3_feeds_125 (by decide) ?_
  refine gx_sub [1, 2, 0] rfl ?_
  exact hk94 M a1 (a4 + 1) h
def tj_X3_feeds_94 (M : MS) (a1 : Int32) (a4 : Int32) (k94 : MS → Int32 → Int32 → Prop) (Q : MS → Prop) : Prop :=
  ((1 < a4 → tj_X3_feeds_160 M a1 Q) ∧ (¬ (1 < a4) → tw_X3_owlIn M a1 a4 (fun r104 M104 => ((r104 = (-1) → tj_X3_feeds_122 M104 a1 a4 k94 Q) ∧ (¬ (r104 = (-1)) → tw_X3_dies M104 r104 0 (fun M119 => tj_X3_feeds_122 M119 a1 a4 k94 Q))))))
theorem tb_X3_feeds_94 {l : Launch} {p : Program} {e : Env} {s : State} {m : MethodId} {args : Array Value} {below : List Frame} {meth : Method} {c : Code} {D : va_G} {g : Nat → Nat} {cI cJ : ClassId} (C : gx_C p s m args meth c cX3_feeds 8 none RX3) (hK : va_K D gcl [(cI, .int), (cJ, .long)] s) {M : MS} {a1 : Int32} {a4 : Int32} {k94 : MS → Int32 → Int32 → Prop} {Q : MS → Prop} (h : tj_X3_feeds_94 M a1 a4 k94 Q) (hk94 : ∀ (M : MS) (a1 : Int32) (a4 : Int32), k94 M a1 a4 → gx_W p l e (headSpec (ws_ yX3_feeds cX3_feeds 8 none) rmX3_feeds).room s m args below meth c 8 (tm_I D g cI cJ s M) 0 0 (MQ below (va_Qv Q (tm_B D g cI cJ s.heap.size) (tm_A g s.heap.size)) args s 0 0 (tm_A g s.heap.size)) 94 [(0, .ref (g 0)), (1, .int a1), (4, .int a4)] []) : gx_W p l e (headSpec (ws_ yX3_feeds cX3_feeds 8 none) rmX3_feeds).room s m args below meth c 8 (tm_I D g cI cJ s M) 0 0 (MQ below (va_Qv Q (tm_B D g cI cJ s.heap.size) (tm_A g s.heap.size)) args s 0 0 (tm_A g s.heap.size)) 94 [(0, .ref (g 0)), (1, .int a1), (4, .int a4)] [] := by
  unfold tj_X3_feeds_94 at h
  refine gx_iload C dX3_feeds_94 2 rfl ?_
  refine gx_iconst (v := 1) C dX3_feeds_96 (by decide) ?_
  refine gx_icmp_gt (tgt := 128) C dX3_feeds_97 (by decide) (fun z => ?_) (fun z => ?_)
  · replace h := h.1 z
    refine gx_goto (tgt := 160) C dX3_feeds_128 (by decide) ?_
    refine gx_sub [0, 1] rfl ?_
    exact tb_X3_feeds_160 C hK h
  · replace h := h.2 z
    refine gx_aload_n C dX3_feeds_100 rfl 0 rfl ?_
    refine gx_iload_n C dX3_feeds_101 rfl 1 rfl ?_
    refine gx_iload C dX3_feeds_102 2 rfl ?_
    refine tm_calli (rest := []) C hK (fun sz => tk_X3_owlIn h) (cwV 2 C.t (lw_V q2431 q2433 qs56 q130 q2434) rfl rfl rfl ⟨rfl, dmX3_owlIn⟩ ⟨Nat.le_of_ble_eq_true rfl, Nat.le_of_ble_eq_true rfl⟩) rfl rfl (Nat.le_of_ble_eq_true rfl) dX3_feeds_104 (fun r104 M104 h => ?_)
    refine gx_istore (lv' := [(5, .int r104), (0, .ref (g 0)), (1, .int a1), (4, .int a4)]) C dX3_feeds_107 (by decide) rfl ?_
    refine gx_iload C dX3_feeds_109 0 rfl ?_
    refine gx_iconst (v := (-1)) C dX3_feeds_111 (by decide) ?_
    refine gx_icmp_eq (tgt := 122) C dX3_feeds_112 (by decide) (fun z => ?_) (fun z => ?_)
    · replace h := h.1 z
      refine gx_sub [1, 2, 3] rfl ?_
      exact tb_X3_feeds_122 C hK h hk94
    · replace h := h.2 z
      refine gx_aload_n C dX3_feeds_115 rfl 1 rfl ?_
      refine gx_iload C dX3_feeds_116 0 rfl ?_
      refine gx_iconst (v := 0) C dX3_feeds_118 (by decide) ?_
      refine tm_callv (rest := []) C hK (fun sz => tk_X3_dies h) (cwV 2 C.t (lw_V q2529 q2531 qs73 q130 q2532) rfl rfl rfl ⟨rfl, dmX3_dies⟩ ⟨Nat.le_of_ble_eq_true rfl, Nat.le_of_ble_eq_true rfl⟩) rfl rfl (Nat.le_of_ble_eq_true rfl) dX3_feeds_119 (fun M119 h => ?_)
      refine gx_sub [1, 2, 3] rfl ?_
      exact tb_X3_feeds_122 C hK h hk94
def tl_X3_feeds_94 (Q : MS → Prop) : Nat → MS → Int32 → Int32 → Prop
  | 0, _, _, _ => False
  | n + 1, M, a1, a4 => tj_X3_feeds_94 M a1 a4 (fun M a1 a4 => tl_X3_feeds_94 Q n M a1 a4) Q
theorem te_X3_feeds_94 {l : Launch} {p : Program} {e : Env} {s : State} {m : MethodId} {args : Array Value} {below : List Frame} {meth : Method} {c : Code} {D : va_G} {g : Nat → Nat} {cI cJ : ClassId} (C : gx_C p s m args meth c cX3_feeds 8 none RX3) (hK : va_K D gcl [(cI, .int), (cJ, .long)] s) {Q : MS → Prop}  (n : Nat) : ∀ (M : MS) (a1 : Int32) (a4 : Int32), tl_X3_feeds_94 Q n M a1 a4 → gx_W p l e (headSpec (ws_ yX3_feeds cX3_feeds 8 none) rmX3_feeds).room s m args below meth c 8 (tm_I D g cI cJ s M) 0 0 (MQ below (va_Qv Q (tm_B D g cI cJ s.heap.size) (tm_A g s.heap.size)) args s 0 0 (tm_A g s.heap.size)) 94 [(0, .ref (g 0)), (1, .int a1), (4, .int a4)] [] := by
  induction n with
  | zero => intro M a1 a4 h; exact False.elim h
  | succ n ih => intro M a1 a4 h; exact tb_X3_feeds_94 C hK (show tj_X3_feeds_94 M a1 a4 (fun M a1 a4 => tl_X3_feeds_94 Q n M a1 a4) Q from h) (fun M a1 a4 h => ih M a1 a4 h)
def tj_X3_feeds_77 (M : MS) (a1 : Int32) (a2 : Int32) (a3 : Int32) (a4 : Int32) (s1 : Int32) (s2 : Int32) (s3 : Int32) (k20 : MS → Int32 → Int32 → Int32 → Int32 → Prop) (Q : MS → Prop) : Prop :=
  (vp_in s1 754 ∧ ∀ M78 : MS, M78 = ms_a M 0 s1 (s2 + s3) → k20 M78 a1 a2 a3 (a4 + 1))
theorem tb_X3_feeds_77 {l : Launch} {p : Program} {e : Env} {s : State} {m : MethodId} {args : Array Value} {below : List Frame} {meth : Method} {c : Code} {D : va_G} {g : Nat → Nat} {cI cJ : ClassId} (C : gx_C p s m args meth c cX3_feeds 8 none RX3) (hK : va_K D gcl [(cI, .int), (cJ, .long)] s) {M : MS} {a1 : Int32} {a2 : Int32} {a3 : Int32} {a4 : Int32} {s1 : Int32} {s2 : Int32} {s3 : Int32} {k20 : MS → Int32 → Int32 → Int32 → Int32 → Prop} {Q : MS → Prop} (h : tj_X3_feeds_77 M a1 a2 a3 a4 s1 s2 s3 k20 Q) (hk20 : ∀ (M : MS) (a1 : Int32) (a2 : Int32) (a3 : Int32) (a4 : Int32), k20 M a1 a2 a3 a4 → gx_W p l e (headSpec (ws_ yX3_feeds cX3_feeds 8 none) rmX3_feeds).room s m args below meth c 8 (tm_I D g cI cJ s M) 0 0 (MQ below (va_Qv Q (tm_B D g cI cJ s.heap.size) (tm_A g s.heap.size)) args s 0 0 (tm_A g s.heap.size)) 20 [(0, .ref (g 0)), (1, .int a1), (2, .int a2), (3, .int a3), (4, .int a4)] []) : gx_W p l e (headSpec (ws_ yX3_feeds cX3_feeds 8 none) rmX3_feeds).room s m args below meth c 8 (tm_I D g cI cJ s M) 0 0 (MQ below (va_Qv Q (tm_B D g cI cJ s.heap.size) (tm_A g s.heap.size)) args s 0 0 (tm_A g s.heap.size)) 77 [(0, .ref (g 0)), (1, .int a1), (2, .int a2), (3, .int a3), (4, .int a4)] [.int s3, .int s2, .int s1, .ref (g 1)] := by
  unfold tj_X3_feeds_77 at h
  refine gx_iadd C dX3_feeds_77 ?_
  obtain ⟨g78, h⟩ := h
  refine tm_ast0 C hK g78 dX3_feeds_78 (fun M78 e_M78 => ?_)
  replace h := h M78 e_M78
  refine gx_iinc (v := a4 + 1) (k := 4) (lv' := [(4, .int (a4 + 1)), (0, .ref (g 0)), (1, .int a1), (2, .int a2), (3, .int a3)]) C dX3_feeds_79 rfl rfl (by decide) rfl ?_
  refine gx_goto (tgt := 20) C dX3_feeds_82 (by decide) ?_
  refine gx_sub [1, 2, 3, 4, 0] rfl ?_
  exact hk20 M78 a1 a2 a3 (a4 + 1) h
def tj_X3_feeds_20 (M : MS) (a1 : Int32) (a2 : Int32) (a3 : Int32) (a4 : Int32) (k20 : MS → Int32 → Int32 → Int32 → Int32 → Prop) (Q : MS → Prop) : Prop :=
  ((64 ≤ a4 → ((60 ≤ a3 → (((60 * a2) ≤ a3 → tj_X3_feeds_160 M a1 Q) ∧ (¬ (60 * a2) ≤ a3 → tw_X3_owlIn M a1 0 (fun r144 M144 => tw_X3_owlIn M144 a1 1 (fun r150 M150 => tw_X3_younger M150 r144 r150 (fun r153 M153 => tw_X3_dies M153 r153 0 (fun M157 => tj_X3_feeds_160 M157 a1 Q))))))) ∧ (¬ (60 ≤ a3) → ∃ n : Nat, tl_X3_feeds_94 Q n M a1 0))) ∧ (¬ (64 ≤ a4) → (vp_in (80 + a4) 754 ∧ (vp_in a1 11 ∧ pw_X3_has (ms_q M a1) a4 (fun r46 => ((r46 = 0 → tj_X3_feeds_77 M a1 a2 a3 a4 (80 + a4) (ms_r M 0 (80 + a4)) 0 k20 Q) ∧ (¬ (r46 = 0) → (vp_in (80 + a4) 754 ∧ tw_X3_crowd M a4 (fun r68 M68 => (¬ r68 = 0 ∧ tj_X3_feeds_77 M68 a1 a2 a3 a4 (80 + a4) (ms_r M 0 (80 + a4)) (1000 * ((ms_r M 0 (80 + a4)) / r68)) k20 Q))))))))))
theorem tb_X3_feeds_20 {l : Launch} {p : Program} {e : Env} {s : State} {m : MethodId} {args : Array Value} {below : List Frame} {meth : Method} {c : Code} {D : va_G} {g : Nat → Nat} {cI cJ : ClassId} (C : gx_C p s m args meth c cX3_feeds 8 none RX3) (hK : va_K D gcl [(cI, .int), (cJ, .long)] s) {M : MS} {a1 : Int32} {a2 : Int32} {a3 : Int32} {a4 : Int32} {k20 : MS → Int32 → Int32 → Int32 → Int32 → Prop} {Q : MS → Prop} (h : tj_X3_feeds_20 M a1 a2 a3 a4 k20 Q) (hk20 : ∀ (M : MS) (a1 : Int32) (a2 : Int32) (a3 : Int32) (a4 : Int32), k20 M a1 a2 a3 a4 → gx_W p l e (headSpec (ws_ yX3_feeds cX3_feeds 8 none) rmX3_feeds).room s m args below meth c 8 (tm_I D g cI cJ s M) 0 0 (MQ below (va_Qv Q (tm_B D g cI cJ s.heap.size) (tm_A g s.heap.size)) args s 0 0 (tm_A g s.heap.size)) 20 [(0, .ref (g 0)), (1, .int a1), (2, .int a2), (3, .int a3), (4, .int a4)] []) : gx_W p l e (headSpec (ws_ yX3_feeds cX3_feeds 8 none) rmX3_feeds).room s m args below meth c 8 (tm_I D g cI cJ s M) 0 0 (MQ below (va_Qv Q (tm_B D g cI cJ s.heap.size) (tm_A g s.heap.size)) args s 0 0 (tm_A g s.heap.size)) 20 [(0, .ref (g 0)), (1, .int a1), (2, .int a2), (3, .int a3), (4, .int a4)] [] := by
  unfold tj_X3_feeds_20 at h
  refine gx_iload C dX3_feeds_20 4 rfl ?_
  refine gx_bipush (v := 64) C dX3_feeds_22 (by decide) ?_
  refine gx_icmp_ge (tgt := 85) C dX3_feeds_24 (by decide) (fun z => ?_) (fun z => ?_)
  · replace h := h.1 z
    refine gx_iload_n C dX3_feeds_85 rfl 3 rfl ?_
    refine gx_bipush (v := 60) C dX3_feeds_86 (by decide) ?_
    refine gx_icmp_ge (tgt := 131) C dX3_feeds_88 (by decide) (fun z => ?_) (fun z => ?_)
    · replace h := h.1 z
      refine gx_iload_n C dX3_feeds_131 rfl 3 rfl ?_
      refine gx_bipush (v := 60) C dX3_feeds_132 (by decide) ?_
      refine gx_iload_n C dX3_feeds_134 rfl 2 rfl ?_
      refine gx_imul C dX3_feeds_135 ?_
      refine gx_icmp_ge (tgt := 160) C dX3_feeds_136 (by decide) (fun z => ?_) (fun z => ?_)
      · replace h := h.1 z
        refine gx_sub [0, 1] rfl ?_
        exact tb_X3_feeds_160 C hK h
      · replace h := h.2 z
        refine gx_aload_n C dX3_feeds_139 rfl 0 rfl ?_
        refine gx_aload_n C dX3_feeds_140 rfl 0 rfl ?_
        refine gx_aload_n C dX3_feeds_141 rfl 0 rfl ?_
        refine gx_iload_n C dX3_feeds_142 rfl 1 rfl ?_
        refine gx_iconst (v := 0) C dX3_feeds_143 (by decide) ?_
        refine tm_calli (rest := [.ref (g 0), .ref (g 0)]) C hK (fun sz => tk_X3_owlIn h) (cwV 2 C.t (lw_V q2431 q2433 qs56 q130 q2434) rfl rfl rfl ⟨rfl, dmX3_owlIn⟩ ⟨Nat.le_of_ble_eq_true rfl, Nat.le_of_ble_eq_true rfl⟩) rfl rfl (Nat.le_of_ble_eq_true rfl) dX3_feeds_144 (fun r144 M144 h => ?_)
        refine gx_aload_n C dX3_feeds_147 rfl 0 rfl ?_
        refine gx_iload_n C dX3_feeds_148 rfl 1 rfl ?_
        refine gx_iconst (v := 1) C dX3_feeds_149 (by decide) ?_
        refine tm_calli (rest := [.int r144, .ref (g 0), .ref (g 0)]) C hK (fun sz => tk_X3_owlIn h) (cwV 2 C.t (lw_V q2431 q2433 qs56 q130 q2434) rfl rfl rfl ⟨rfl, dmX3_owlIn⟩ ⟨Nat.le_of_ble_eq_true rfl, Nat.le_of_ble_eq_true rfl⟩) rfl rfl (Nat.le_of_ble_eq_true rfl) dX3_feeds_150 (fun r150 M150 h => ?_)
        refine tm_calli (rest := [.ref (g 0)]) C hK (fun sz => tk_X3_younger h) (cwV 2 C.t (lw_V q2533 q2535 qs74 q130 q2536) rfl rfl rfl ⟨rfl, dmX3_younger⟩ ⟨Nat.le_of_ble_eq_true rfl, Nat.le_of_ble_eq_true rfl⟩) rfl rfl (Nat.le_of_ble_eq_true rfl) dX3_feeds_153 (fun r153 M153 h => ?_)
        refine gx_iconst (v := 0) C dX3_feeds_156 (by decide) ?_
        refine tm_callv (rest := []) C hK (fun sz => tk_X3_dies h) (cwV 2 C.t (lw_V q2529 q2531 qs73 q130 q2532) rfl rfl rfl ⟨rfl, dmX3_dies⟩ ⟨Nat.le_of_ble_eq_true rfl, Nat.le_of_ble_eq_true rfl⟩) rfl rfl (Nat.le_of_ble_eq_true rfl) dX3_feeds_157 (fun M157 h => ?_)
        refine gx_sub [0, 1] rfl ?_
        exact tb_X3_feeds_160 C hK h
    · replace h := h.2 z
      refine gx_iconst (v := 0) C dX3_feeds_91 (by decide) ?_
      refine gx_istore (lv' := [(4, .int 0), (0, .ref (g 0)), (1, .int a1), (2, .int a2), (3, .int a3)]) C dX3_feeds_92 (by decide) rfl ?_
      refine gx_sub [1, 2, 0] rfl ?_
      obtain ⟨n, h⟩ := h
      exact te_X3_feeds_94 C hK n M a1 0 h
  · replace h := h.2 z
    refine gx_aload_n C dX3_feeds_27 rfl 0 rfl ?_
    refine tm_get C hK 1 (by decide) q2301 rfl rfl dX3_feeds_28 ?_
    refine gx_bipush (v := 80) C dX3_feeds_31 (by decide) ?_
    refine gx_iload C dX3_feeds_33 4 rfl ?_
    refine gx_iadd C dX3_feeds_35 ?_
    refine gx_dup2_11 C dX3_feeds_36 rfl rfl ?_
    obtain ⟨g37, h⟩ := h
    refine tm_ald0 C hK g37 dX3_feeds_37 ?_
    refine gx_aload_n C dX3_feeds_38 rfl 0 rfl ?_
    refine tm_get C hK 7 (by decide) q2307 rfl rfl dX3_feeds_39 ?_
    refine gx_iload_n C dX3_feeds_42 rfl 1 rfl ?_
    obtain ⟨g43, h⟩ := h
    refine tm_lld C hK g43 dX3_feeds_43 ?_
    refine gx_iload C dX3_feeds_44 4 rfl ?_
    refine gx_calls_i (rest := [.int (ms_r M 0 (80 + a4)), .int (80 + a4), .ref (g 1)]) C (pk_X3_has h) (va_cwS 2 C.t (lw_S q2497 q2498 q130 q2499) rfl rfl rfl dmX3_has ⟨Nat.le_of_ble_eq_true rfl, Nat.le_of_ble_eq_true rfl⟩) rfl rfl (Nat.le_of_ble_eq_true rfl) ⟨Nat.zero_le _, Nat.zero_le _⟩ dX3_feeds_46 (fun r46 h => ?_)
    refine gx_if_eq (tgt := 76) C dX3_feeds_49 (by decide) (fun z => ?_) (fun z => ?_)
    · replace h := h.1 z
      refine gx_iconst (v := 0) C dX3_feeds_76 (by decide) ?_
      exact tb_X3_feeds_77 C hK h hk20
    · replace h := h.2 z
      refine gx_sipush (v := 1000) C dX3_feeds_52 (by decide) ?_
      refine gx_aload_n C dX3_feeds_55 rfl 0 rfl ?_
      refine tm_get C hK 1 (by decide) q2301 rfl rfl dX3_feeds_56 ?_
      refine gx_bipush (v := 80) C dX3_feeds_59 (by decide) ?_
      refine gx_iload C dX3_feeds_61 4 rfl ?_
      refine gx_iadd C dX3_feeds_63 ?_
      obtain ⟨g64, h⟩ := h
      refine tm_ald0 C hK g64 dX3_feeds_64 ?_
      refine gx_aload_n C dX3_feeds_65 rfl 0 rfl ?_
      refine gx_iload C dX3_feeds_66 4 rfl ?_
      refine tm_calli (rest := [.int (ms_r M 0 (80 + a4)), .int 1000, .int (ms_r M 0 (80 + a4)), .int (80 + a4), .ref (g 1)]) C hK (fun sz => tk_X3_crowd h) (cwV 1 C.t (lw_V q2525 q2527 qs72 q130 q2528) rfl rfl rfl ⟨rfl, dmX3_crowd⟩ ⟨Nat.le_of_ble_eq_true rfl, Nat.le_of_ble_eq_true rfl⟩) rfl rfl (Nat.le_of_ble_eq_true rfl) dX3_feeds_68 (fun r68 M68 h => ?_)
      obtain ⟨g71, h⟩ := h
      refine gx_idiv C dX3_feeds_71 g71 ?_
      refine gx_imul C dX3_feeds_72 ?_
      refine gx_goto (tgt := 77) C dX3_feeds_73 (by decide) ?_
      exact tb_X3_feeds_77 C hK h hk20
def tl_X3_feeds_20 (Q : MS → Prop) : Nat → MS → Int32 → Int32 → Int32 → Int32 → Prop
  | 0, _, _, _, _, _ => False
  | n + 1, M, a1, a2, a3, a4 => tj_X3_feeds_20 M a1 a2 a3 a4 (fun M a1 a2 a3 a4 => tl_X3_feeds_20 Q n M a1 a2 a3 a4) Q
theorem te_X3_feeds_20 {l : Launch} {p : Program} {e : Env} {s : State} {m : MethodId} {args : Array Value} {below : List Frame} {meth : Method} {c : Code} {D : va_G} {g : Nat → Nat} {cI cJ : ClassId} (C : gx_C p s m args meth c cX3_feeds 8 none RX3) (hK : va_K D gcl [(cI, .int), (cJ, .long)] s) {Q : MS → Prop}  (n : Nat) : ∀ (M : MS) (a1 : Int32) (a2 : Int32) (a3 : Int32) (a4 : Int32), tl_X3_feeds_20 Q n M a1 a2 a3 a4 → gx_W p l e (headSpec (ws_ yX3_feeds cX3_feeds 8 none) rmX3_feeds).room s m args below meth c 8 (tm_I D g cI cJ s M) 0 0 (MQ below (va_Qv Q (tm_B D g cI cJ s.heap.size) (tm_A g s.heap.size)) args s 0 0 (tm_A g s.heap.size)) 20 [(0, .ref (g 0)), (1, .int a1), (2, .int a2), (3, .int a3), (4, .int a4)] [] := by
  induction n with
  | zero => intro M a1 a2 a3 a4 h; exact False.elim h
  | succ n ih => intro M a1 a2 a3 a4 h; exact tb_X3_feeds_20 C hK (show tj_X3_feeds_20 M a1 a2 a3 a4 (fun M a1 a2 a3 a4 => tl_X3_feeds_20 Q n M a1 a2 a3 a4) Q from h) (fun M a1 a2 a3 a4 h => ih M a1 a2 a3 a4 h)
def tw_X3_feeds (M : MS) (a1 : Int32) (Q : MS → Prop) : Prop :=
  tw_X3_many M a1 (fun r2 M2 => ((r2 = 0 → Q M2) ∧ (¬ (r2 = 0) → tw_X3_share M2 a1 (fun r13 M13 => ∃ n : Nat, tl_X3_feeds_20 Q n M13 a1 r2 r13 0))))
theorem tk_X3_feeds {l : Launch} {D : va_G} {g : Nat → Nat} {cI cJ : ClassId} {sz : Nat} {M : MS} {a1 : Int32} {Q : MS → Prop} (h : tw_X3_feeds M a1 Q) : tm_Met l yX3_feeds cX3_feeds 8 none rmX3_feeds [.int a1] D g cI cJ sz M (va_Qv Q (tm_B D g cI cJ sz) (tm_A g sz)) := by
  refine tm_entry (by decide) (Nat.le_of_ble_eq_true rfl) (fun p e s m args below meth c hsz C hK => ?_)
  subst hsz
  unfold tw_X3_feeds at h
  show gx_W p l e (headSpec (ws_ yX3_feeds cX3_feeds 8 none) rmX3_feeds).room s m args below meth c 8 (tm_I D g cI cJ s M) 0 0 (MQ below (va_Qv Q (tm_B D g cI cJ s.heap.size) (tm_A g s.heap.size)) args s 0 0 (tm_A g s.heap.size)) 0 [(0, .ref (g 0)), (1, .int a1)] []
  refine gx_aload_n C dX3_feeds_0 rfl 0 rfl ?_
  refine gx_iload_n C dX3_feeds_1 rfl 1 rfl ?_
  refine tm_calli (rest := []) C hK (fun sz => tk_X3_many h) (cwV 1 C.t (lw_V q2427 q2429 qs55 q130 q2430) rfl rfl rfl ⟨rfl, dmX3_many⟩ ⟨Nat.le_of_ble_eq_true rfl, Nat.le_of_ble_eq_true rfl⟩) rfl rfl (Nat.le_of_ble_eq_true rfl) dX3_feeds_2 (fun r2 M2 h => ?_)
  refine gx_istore_n (lv' := [(2, .int r2), (0, .ref (g 0)), (1, .int a1)]) C dX3_feeds_5 rfl (by decide) rfl ?_
  refine gx_iload_n C dX3_feeds_6 rfl 0 rfl ?_
  refine gx_if_ne (tgt := 11) C dX3_feeds_7 (by decide) (fun z => ?_) (fun z => ?_)
  · replace h := h.2 z
    refine gx_aload_n C dX3_feeds_11 rfl 1 rfl ?_
    refine gx_iload_n C dX3_feeds_12 rfl 2 rfl ?_
    refine tm_calli (rest := []) C hK (fun sz => tk_X3_share h) (cwV 1 C.t (lw_V q2517 q2519 qs70 q130 q2520) rfl rfl rfl ⟨rfl, dmX3_share⟩ ⟨Nat.le_of_ble_eq_true rfl, Nat.le_of_ble_eq_true rfl⟩) rfl rfl (Nat.le_of_ble_eq_true rfl) dX3_feeds_13 (fun r13 M13 h => ?_)
    refine gx_istore_n (lv' := [(3, .int r13), (2, .int r2), (0, .ref (g 0)), (1, .int a1)]) C dX3_feeds_16 rfl (by decide) rfl ?_
    refine gx_iconst (v := 0) C dX3_feeds_17 (by decide) ?_
    refine gx_istore (lv' := [(4, .int 0), (3, .int r13), (2, .int r2), (0, .ref (g 0)), (1, .int a1)]) C dX3_feeds_18 (by decide) rfl ?_
    refine gx_sub [3, 4, 2, 1, 0] rfl ?_
    obtain ⟨n, h⟩ := h
    exact te_X3_feeds_20 C hK n M13 a1 r2 r13 0 h
  · replace h := h.1 z
    exact tm_vret C hK h dX3_feeds_10
/-! risk(I)I -/
abbrev rmX3_risk : Room := { frames := 2, cells := 0, slots := 0, locals := 43 }
theorem dmX3_risk : yX3_risk.cls ≠ "java/lang/invoke/MethodHandle" ∧ yX3_risk.cls ≠ "java/lang/invoke/VarHandle" ∧ (parseMethodDescriptor yX3_risk.desc).map (fun d => d.parameters.length) = some 1 := by decide +kernel
def tj_X3_risk_42 (M : MS) (a1 : Int32) (a3 : Int32) (s0 : Int32) (s1 : Int32) (k4 : MS → Int32 → Int32 → Int32 → Prop) (Q : Int32 → MS → Prop) : Prop :=
  k4 M a1 (s0 + s1) (a3 + 1)
theorem tb_X3_risk_42 {l : Launch} {p : Program} {e : Env} {s : State} {m : MethodId} {args : Array Value} {below : List Frame} {meth : Method} {c : Code} {D : va_G} {g : Nat → Nat} {cI cJ : ClassId} (C : gx_C p s m args meth c cX3_risk 4 (some .int) RX3) (hK : va_K D gcl [(cI, .int), (cJ, .long)] s) {M : MS} {a1 : Int32} {a3 : Int32} {s0 : Int32} {s1 : Int32} {k4 : MS → Int32 → Int32 → Int32 → Prop} {Q : Int32 → MS → Prop} (h : tj_X3_risk_42 M a1 a3 s0 s1 k4 Q) (hk4 : ∀ (M : MS) (a1 : Int32) (a2 : Int32) (a3 : Int32), k4 M a1 a2 a3 → gx_W p l e (headSpec (ws_ yX3_risk cX3_risk 4 (some .int)) rmX3_risk).room s m args below meth c 4 (tm_I D g cI cJ s M) 0 0 (MQ below (va_Qi Q (tm_B D g cI cJ s.heap.size) (tm_A g s.heap.size)) args s 0 0 (tm_A g s.heap.size)) 4 [(0, .ref (g 0)), (1, .int a1), (2, .int a2), (3, .int a3)] []) : gx_W p l e (headSpec (ws_ yX3_risk cX3_risk 4 (some .int)) rmX3_risk).room s m args below meth c 4 (tm_I D g cI cJ s M) 0 0 (MQ below (va_Qi Q (tm_B D g cI cJ s.heap.size) (tm_A g s.heap.size)) args s 0 0 (tm_A g s.heap.size)) 42 [(0, .ref (g 0)), (1, .int a1), (3, .int a3)] [.int s1, .int s0] := by
  unfold tj_X3_risk_42 at h
  refine gx_iadd C dX3_risk_42 ?_
  refine gx_istore_n (lv' := [(2, .int (s0 + s1)), (0, .ref (g 0)), (1, .int a1), (3, .int a3)]) C dX3_risk_43 rfl (by decide) rfl ?_
  refine gx_iinc (v := a3 + 1) (k := 3) (lv' := [(3, .int (a3 + 1)), (2, .int (s0 + s1)), (0, .ref (g 0)), (1, .int a1)]) C dX3_risk_44 rfl rfl (by decide) rfl ?_
  refine gx_goto (tgt := 4) C dX3_risk_47 (by decide) ?_
  refine gx_sub [2, 3, 1, 0] rfl ?_
  exact hk4 M a1 (s0 + s1) (a3 + 1) h
def tj_X3_risk_41 (M : MS) (a1 : Int32) (a3 : Int32) (s0 : Int32) (k4 : MS → Int32 → Int32 → Int32 → Prop) (Q : Int32 → MS → Prop) : Prop :=
  tj_X3_risk_42 M a1 a3 s0 0 k4 Q
theorem tb_X3_risk_41 {l : Launch} {p : Program} {e : Env} {s : State} {m : MethodId} {args : Array Value} {below : List Frame} {meth : Method} {c : Code} {D : va_G} {g : Nat → Nat} {cI cJ : ClassId} (C : gx_C p s m args meth c cX3_risk 4 (some .int) RX3) (hK : va_K D gcl [(cI, .int), (cJ, .long)] s) {M : MS} {a1 : Int32} {a3 : Int32} {s0 : Int32} {k4 : MS → Int32 → Int32 → Int32 → Prop} {Q : Int32 → MS → Prop} (h : tj_X3_risk_41 M a1 a3 s0 k4 Q) (hk4 : ∀ (M : MS) (a1 : Int32) (a2 : Int32) (a3 : Int32), k4 M a1 a2 a3 → gx_W p l e (headSpec (ws_ yX3_risk cX3_risk 4 (some .int)) rmX3_risk).room s m args below meth c 4 (tm_I D g cI cJ s M) 0 0 (MQ below (va_Qi Q (tm_B D g cI cJ s.heap.size) (tm_A g s.heap.size)) args s 0 0 (tm_A g s.heap.size)) 4 [(0, .ref (g 0)), (1, .int a1), (2, .int a2), (3, .int a3)] []) : gx_W p l e (headSpec (ws_ yX3_risk cX3_risk 4 (some .int)) rmX3_risk).room s m args below meth c 4 (tm_I D g cI cJ s M) 0 0 (MQ below (va_Qi Q (tm_B D g cI cJ s.heap.size) (tm_A g s.heap.size)) args s 0 0 (tm_A g s.heap.size)) 41 [(0, .ref (g 0)), (1, .int a1), (3, .int a3)] [.int s0] := by
  unfold tj_X3_risk_41 at h
  refine gx_iconst (v := 0) C dX3_risk_41 (by decide) ?_
  exact tb_X3_risk_42 C hK h hk4
def tj_X3_risk_4 (M : MS) (a1 : Int32) (a2 : Int32) (a3 : Int32) (k4 : MS → Int32 → Int32 → Int32 → Prop) (Q : Int32 → MS → Prop) : Prop :=
  ((64 ≤ a3 → Q a2 M) ∧ (¬ (64 ≤ a3) → tw_X3_isRoad M a3 (fun r13 M13 => ((r13 = 0 → tj_X3_risk_41 M13 a1 a3 a2 k4 Q) ∧ (¬ (r13 = 0) → (vp_in (144 + a1) 754 ∧ pw_X3_far a3 (ms_r M13 0 (144 + a1)) (fun r30 => ((3 ≤ r30 → tj_X3_risk_41 M13 a1 a3 a2 k4 Q) ∧ (¬ (3 ≤ r30) → tj_X3_risk_42 M13 a1 a3 a2 4 k4 Q)))))))))
theorem tb_X3_risk_4 {l : Launch} {p : Program} {e : Env} {s : State} {m : MethodId} {args : Array Value} {below : List Frame} {meth : Method} {c : Code} {D : va_G} {g : Nat → Nat} {cI cJ : ClassId} (C : gx_C p s m args meth c cX3_risk 4 (some .int) RX3) (hK : va_K D gcl [(cI, .int), (cJ, .long)] s) {M : MS} {a1 : Int32} {a2 : Int32} {a3 : Int32} {k4 : MS → Int32 → Int32 → Int32 → Prop} {Q : Int32 → MS → Prop} (h : tj_X3_risk_4 M a1 a2 a3 k4 Q) (hk4 : ∀ (M : MS) (a1 : Int32) (a2 : Int32) (a3 : Int32), k4 M a1 a2 a3 → gx_W p l e (headSpec (ws_ yX3_risk cX3_risk 4 (some .int)) rmX3_risk).room s m args below meth c 4 (tm_I D g cI cJ s M) 0 0 (MQ below (va_Qi Q (tm_B D g cI cJ s.heap.size) (tm_A g s.heap.size)) args s 0 0 (tm_A g s.heap.size)) 4 [(0, .ref (g 0)), (1, .int a1), (2, .int a2), (3, .int a3)] []) : gx_W p l e (headSpec (ws_ yX3_risk cX3_risk 4 (some .int)) rmX3_risk).room s m args below meth c 4 (tm_I D g cI cJ s M) 0 0 (MQ below (va_Qi Q (tm_B D g cI cJ s.heap.size) (tm_A g s.heap.size)) args s 0 0 (tm_A g s.heap.size)) 4 [(0, .ref (g 0)), (1, .int a1), (2, .int a2), (3, .int a3)] [] := by
  unfold tj_X3_risk_4 at h
  refine gx_iload_n C dX3_risk_4 rfl 3 rfl ?_
  refine gx_bipush (v := 64) C dX3_risk_5 (by decide) ?_
  refine gx_icmp_ge (tgt := 50) C dX3_risk_7 (by decide) (fun z => ?_) (fun z => ?_)
  · replace h := h.1 z
    refine gx_iload_n C dX3_risk_50 rfl 2 rfl ?_
    exact tm_iret C hK h dX3_risk_51
  · replace h := h.2 z
    refine gx_iload_n C dX3_risk_10 rfl 2 rfl ?_
    refine gx_aload_n C dX3_risk_11 rfl 0 rfl ?_
    refine gx_iload_n C dX3_risk_12 rfl 3 rfl ?_
    refine tm_calli (rest := [.int a2]) C hK (fun sz => tk_X3_isRoad h) (cwV 1 C.t (lw_V q2390 q2392 qs50 q130 q2393) rfl rfl rfl ⟨rfl, dmX3_isRoad⟩ ⟨Nat.le_of_ble_eq_true rfl, Nat.le_of_ble_eq_true rfl⟩) rfl rfl (Nat.le_of_ble_eq_true rfl) dX3_risk_13 (fun r13 M13 h => ?_)
    refine gx_if_eq (tgt := 41) C dX3_risk_16 (by decide) (fun z => ?_) (fun z => ?_)
    · replace h := h.1 z
      refine gx_sub [0, 1, 3] rfl ?_
      exact tb_X3_risk_41 C hK h hk4
    · replace h := h.2 z
      refine gx_iload_n C dX3_risk_19 rfl 3 rfl ?_
      refine gx_aload_n C dX3_risk_20 rfl 0 rfl ?_
      refine tm_get C hK 1 (by decide) q2301 rfl rfl dX3_risk_21 ?_
      refine gx_sipush (v := 144) C dX3_risk_24 (by decide) ?_
      refine gx_iload_n C dX3_risk_27 rfl 1 rfl ?_
      refine gx_iadd C dX3_risk_28 ?_
      obtain ⟨g29, h⟩ := h
      refine tm_ald0 C hK g29 dX3_risk_29 ?_
      refine gx_calls_i (rest := [.int a2]) C (pk_X3_far h) (va_cwS 2 C.t (lw_S q2500 q2501 q130 q2502) rfl rfl rfl dmX3_far ⟨Nat.le_of_ble_eq_true rfl, Nat.le_of_ble_eq_true rfl⟩) rfl rfl (Nat.le_of_ble_eq_true rfl) ⟨Nat.zero_le _, Nat.zero_le _⟩ dX3_risk_30 (fun r30 h => ?_)
      refine gx_iconst (v := 3) C dX3_risk_33 (by decide) ?_
      refine gx_icmp_ge (tgt := 41) C dX3_risk_34 (by decide) (fun z => ?_) (fun z => ?_)
      · replace h := h.1 z
        refine gx_sub [0, 1, 3] rfl ?_
        exact tb_X3_risk_41 C hK h hk4
      · replace h := h.2 z
        refine gx_iconst (v := 4) C dX3_risk_37 (by decide) ?_
        refine gx_goto (tgt := 42) C dX3_risk_38 (by decide) ?_
        refine gx_sub [0, 1, 3] rfl ?_
        exact tb_X3_risk_42 C hK h hk4
def tl_X3_risk_4 (Q : Int32 → MS → Prop) : Nat → MS → Int32 → Int32 → Int32 → Prop
  | 0, _, _, _, _ => False
  | n + 1, M, a1, a2, a3 => tj_X3_risk_4 M a1 a2 a3 (fun M a1 a2 a3 => tl_X3_risk_4 Q n M a1 a2 a3) Q
theorem te_X3_risk_4 {l : Launch} {p : Program} {e : Env} {s : State} {m : MethodId} {args : Array Value} {below : List Frame} {meth : Method} {c : Code} {D : va_G} {g : Nat → Nat} {cI cJ : ClassId} (C : gx_C p s m args meth c cX3_risk 4 (some .int) RX3) (hK : va_K D gcl [(cI, .int), (cJ, .long)] s) {Q : Int32 → MS → Prop}  (n : Nat) : ∀ (M : MS) (a1 : Int32) (a2 : Int32) (a3 : Int32), tl_X3_risk_4 Q n M a1 a2 a3 → gx_W p l e (headSpec (ws_ yX3_risk cX3_risk 4 (some .int)) rmX3_risk).room s m args below meth c 4 (tm_I D g cI cJ s M) 0 0 (MQ below (va_Qi Q (tm_B D g cI cJ s.heap.size) (tm_A g s.heap.size)) args s 0 0 (tm_A g s.heap.size)) 4 [(0, .ref (g 0)), (1, .int a1), (2, .int a2), (3, .int a3)] [] := by
  induction n with
  | zero => intro M a1 a2 a3 h; exact False.elim h
  | succ n ih => intro M a1 a2 a3 h; exact tb_X3_risk_4 C hK (show tj_X3_risk_4 M a1 a2 a3 (fun M a1 a2 a3 => tl_X3_risk_4 Q n M a1 a2 a3) Q from h) (fun M a1 a2 a3 h => ih M a1 a2 a3 h)
def tw_X3_risk (M : MS) (a1 : Int32) (Q : Int32 → MS → Prop) : Prop :=
  ∃ n : Nat, tl_X3_risk_4 Q n M a1 0 0
theorem tk_X3_risk {l : Launch} {D : va_G} {g : Nat → Nat} {cI cJ : ClassId} {sz : Nat} {M : MS} {a1 : Int32} {Q : Int32 → MS → Prop} (h : tw_X3_risk M a1 Q) : tm_Met l yX3_risk cX3_risk 4 (some .int) rmX3_risk [.int a1] D g cI cJ sz M (va_Qi Q (tm_B D g cI cJ sz) (tm_A g sz)) := by
  refine tm_entry (by decide) (Nat.le_of_ble_eq_true rfl) (fun p e s m args below meth c hsz C hK => ?_)
  subst hsz
  unfold tw_X3_risk at h
  show gx_W p l e (headSpec (ws_ yX3_risk cX3_risk 4 (some .int)) rmX3_risk).room s m args below meth c 4 (tm_I D g cI cJ s M) 0 0 (MQ below (va_Qi Q (tm_B D g cI cJ s.heap.size) (tm_A g s.heap.size)) args s 0 0 (tm_A g s.heap.size)) 0 [(0, .ref (g 0)), (1, .int a1)] []
  refine gx_iconst (v := 0) C dX3_risk_0 (by decide) ?_
  refine gx_istore_n (lv' := [(2, .int 0), (0, .ref (g 0)), (1, .int a1)]) C dX3_risk_1 rfl (by decide) rfl ?_
  refine gx_iconst (v := 0) C dX3_risk_2 (by decide) ?_
  refine gx_istore_n (lv' := [(3, .int 0), (2, .int 0), (0, .ref (g 0)), (1, .int a1)]) C dX3_risk_3 rfl (by decide) rfl ?_
  refine gx_sub [2, 3, 1, 0] rfl ?_
  obtain ⟨n, h⟩ := h
  exact te_X3_risk_4 C hK n M a1 0 0 h
/-! meetsRoads()V -/
abbrev rmX3_meetsRoads : Room := { frames := 3, cells := 0, slots := 0, locals := 69 }
theorem dmX3_meetsRoads : yX3_meetsRoads.cls ≠ "java/lang/invoke/MethodHandle" ∧ yX3_meetsRoads.cls ≠ "java/lang/invoke/VarHandle" ∧ (parseMethodDescriptor yX3_meetsRoads.desc).map (fun d => d.parameters.length) = some 0 := by decide +kernel
def tj_X3_meetsRoads_100 (M : MS) (a1 : Int32) (k2 : MS → Int32 → Prop) (Q : MS → Prop) : Prop :=
  k2 M a1
theorem tb_X3_meetsRoads_100 {l : Launch} {p : Program} {e : Env} {s : State} {m : MethodId} {args : Array Value} {below : List Frame} {meth : Method} {c : Code} {D : va_G} {g : Nat → Nat} {cI cJ : ClassId} (C : gx_C p s m args meth c cX3_meetsRoads 3 none RX3) (hK : va_K D gcl [(cI, .int), (cJ, .long)] s) {M : MS} {a1 : Int32} {k2 : MS → Int32 → Prop} {Q : MS → Prop} (h : tj_X3_meetsRoads_100 M a1 k2 Q) (hk2 : ∀ (M : MS) (a1 : Int32), k2 M a1 → gx_W p l e (headSpec (ws_ yX3_meetsRoads cX3_meetsRoads 3 none) rmX3_meetsRoads).room s m args below meth c 3 (tm_I D g cI cJ s M) 0 0 (MQ below (va_Qv Q (tm_B D g cI cJ s.heap.size) (tm_A g s.heap.size)) args s 0 0 (tm_A g s.heap.size)) 2 [(0, .ref (g 0)), (1, .int a1)] []) : gx_W p l e (headSpec (ws_ yX3_meetsRoads cX3_meetsRoads 3 none) rmX3_meetsRoads).room s m args below meth c 3 (tm_I D g cI cJ s M) 0 0 (MQ below (va_Qv Q (tm_B D g cI cJ s.heap.size) (tm_A g s.heap.size)) args s 0 0 (tm_A g s.heap.size)) 100 [(0, .ref (g 0)), (1, .int a1)] [] := by
  unfold tj_X3_meetsRoads_100 at h
  refine gx_goto (tgt := 2) C dX3_meetsRoads_100 (by decide) ?_
  exact hk2 M a1 h
def tj_X3_meetsRoads_97 (M : MS) (a1 : Int32) (k2 : MS → Int32 → Prop) (Q : MS → Prop) : Prop :=
  tj_X3_meetsRoads_100 M (a1 + 1) k2 Q
theorem tb_X3_meetsRoads_97 {l : Launch} {p : Program} {e : Env} {s : State} {m : MethodId} {args : Array Value} {below : List Frame} {meth : Method} {c : Code} {D : va_G} {g : Nat → Nat} {cI cJ : ClassId} (C : gx_C p s m args meth c cX3_meetsRoads 3 none RX3) (hK : va_K D gcl [(cI, .int), (cJ, .long)] s) {M : MS} {a1 : Int32} {k2 : MS → Int32 → Prop} {Q : MS → Prop} (h : tj_X3_meetsRoads_97 M a1 k2 Q) (hk2 : ∀ (M : MS) (a1 : Int32), k2 M a1 → gx_W p l e (headSpec (ws_ yX3_meetsRoads cX3_meetsRoads 3 none) rmX3_meetsRoads).room s m args below meth c 3 (tm_I D g cI cJ s M) 0 0 (MQ below (va_Qv Q (tm_B D g cI cJ s.heap.size) (tm_A g s.heap.size)) args s 0 0 (tm_A g s.heap.size)) 2 [(0, .ref (g 0)), (1, .int a1)] []) : gx_W p l e (headSpec (ws_ yX3_meetsRoads cX3_meetsRoads 3 none) rmX3_meetsRoads).room s m args below meth c 3 (tm_I D g cI cJ s M) 0 0 (MQ below (va_Qv Q (tm_B D g cI cJ s.heap.size) (tm_A g s.heap.size)) args s 0 0 (tm_A g s.heap.size)) 97 [(0, .ref (g 0)), (1, .int a1)] [] := by
  unfold tj_X3_meetsRoads_97 at h
  refine gx_iinc (v := a1 + 1) (k := 1) (lv' := [(1, .int (a1 + 1)), (0, .ref (g 0))]) C dX3_meetsRoads_97 rfl rfl (by decide) rfl ?_
  refine gx_sub [1, 0] rfl ?_
  exact tb_X3_meetsRoads_100 C hK h hk2
def tj_X3_meetsRoads_70 (M : MS) (a1 : Int32) (a2 : Int32) (s1 : Int32) (s2 : Int32) (k2 : MS → Int32 → Prop) (Q : MS → Prop) : Prop :=
  (vp_in s1 754 ∧ ∀ M70 : MS, M70 = ms_a M 0 s1 s2 → ((a2 ≤ 0 → tj_X3_meetsRoads_97 M70 a1 k2 Q) ∧ (¬ (a2 ≤ 0) → (vp_in 1 754 ∧ ((a2 ≤ ((ms_r M70 0 1) - (ms_r M70 0 1) / 100 * 100) → tj_X3_meetsRoads_97 M70 a1 k2 Q) ∧ (¬ (a2 ≤ ((ms_r M70 0 1) - (ms_r M70 0 1) / 100 * 100)) → tw_X3_dies M70 a1 1 (fun M91 => tj_X3_meetsRoads_100 M91 a1 k2 Q)))))))
theorem tb_X3_meetsRoads_70 {l : Launch} {p : Program} {e : Env} {s : State} {m : MethodId} {args : Array Value} {below : List Frame} {meth : Method} {c : Code} {D : va_G} {g : Nat → Nat} {cI cJ : ClassId} (C : gx_C p s m args meth c cX3_meetsRoads 3 none RX3) (hK : va_K D gcl [(cI, .int), (cJ, .long)] s) {M : MS} {a1 : Int32} {a2 : Int32} {s1 : Int32} {s2 : Int32} {k2 : MS → Int32 → Prop} {Q : MS → Prop} (h : tj_X3_meetsRoads_70 M a1 a2 s1 s2 k2 Q) (hk2 : ∀ (M : MS) (a1 : Int32), k2 M a1 → gx_W p l e (headSpec (ws_ yX3_meetsRoads cX3_meetsRoads 3 none) rmX3_meetsRoads).room s m args below meth c 3 (tm_I D g cI cJ s M) 0 0 (MQ below (va_Qv Q (tm_B D g cI cJ s.heap.size) (tm_A g s.heap.size)) args s 0 0 (tm_A g s.heap.size)) 2 [(0, .ref (g 0)), (1, .int a1)] []) : gx_W p l e (headSpec (ws_ yX3_meetsRoads cX3_meetsRoads 3 none) rmX3_meetsRoads).room s m args below meth c 3 (tm_I D g cI cJ s M) 0 0 (MQ below (va_Qv Q (tm_B D g cI cJ s.heap.size) (tm_A g s.heap.size)) args s 0 0 (tm_A g s.heap.size)) 70 [(0, .ref (g 0)), (1, .int a1), (2, .int a2)] [.int s2, .int s1, .ref (g 1)] := by
  unfold tj_X3_meetsRoads_70 at h
  obtain ⟨g70, h⟩ := h
  refine tm_ast0 C hK g70 dX3_meetsRoads_70 (fun M70 e_M70 => ?_)
  replace h := h M70 e_M70
  refine gx_iload_n C dX3_meetsRoads_71 rfl 2 rfl ?_
  refine gx_if_le (tgt := 97) C dX3_meetsRoads_72 (by decide) (fun z => ?_) (fun z => ?_)
  · replace h := h.1 z
    refine gx_sub [0, 1] rfl ?_
    exact tb_X3_meetsRoads_97 C hK h hk2
  · replace h := h.2 z
    refine gx_aload_n C dX3_meetsRoads_75 rfl 0 rfl ?_
    refine tm_get C hK 1 (by decide) q2301 rfl rfl dX3_meetsRoads_76 ?_
    refine gx_iconst (v := 1) C dX3_meetsRoads_79 (by decide) ?_
    obtain ⟨g80, h⟩ := h
    refine tm_ald0 C hK g80 dX3_meetsRoads_80 ?_
    refine gx_bipush (v := 100) C dX3_meetsRoads_81 (by decide) ?_
    refine gx_irem C dX3_meetsRoads_83 (by decide) ?_
    refine gx_iload_n C dX3_meetsRoads_84 rfl 2 rfl ?_
    refine gx_icmp_ge (tgt := 97) C dX3_meetsRoads_85 (by decide) (fun z => ?_) (fun z => ?_)
    · replace h := h.1 z
      refine gx_sub [0, 1] rfl ?_
      exact tb_X3_meetsRoads_97 C hK h hk2
    · replace h := h.2 z
      refine gx_aload_n C dX3_meetsRoads_88 rfl 0 rfl ?_
      refine gx_iload_n C dX3_meetsRoads_89 rfl 1 rfl ?_
      refine gx_iconst (v := 1) C dX3_meetsRoads_90 (by decide) ?_
      refine tm_callv (rest := []) C hK (fun sz => tk_X3_dies h) (cwV 2 C.t (lw_V q2529 q2531 qs73 q130 q2532) rfl rfl rfl ⟨rfl, dmX3_dies⟩ ⟨Nat.le_of_ble_eq_true rfl, Nat.le_of_ble_eq_true rfl⟩) rfl rfl (Nat.le_of_ble_eq_true rfl) dX3_meetsRoads_91 (fun M91 h => ?_)
      refine gx_goto (tgt := 100) C dX3_meetsRoads_94 (by decide) ?_
      refine gx_sub [0, 1] rfl ?_
      exact tb_X3_meetsRoads_100 C hK h hk2
def tj_X3_meetsRoads_36 (M : MS) (a1 : Int32) (s0 : Int32) (k2 : MS → Int32 → Prop) (Q : MS → Prop) : Prop :=
  ((s0 ≤ 0 → (vp_in 1 754 ∧ tj_X3_meetsRoads_70 M a1 s0 1 (ms_r M 0 1) k2 Q)) ∧ (¬ (s0 ≤ 0) → (vp_in 1 754 ∧ tj_X3_meetsRoads_70 M a1 s0 1 (((75 * (ms_r M 0 1)) + 74) - ((75 * (ms_r M 0 1)) + 74) / 65537 * 65537) k2 Q)))
theorem tb_X3_meetsRoads_36 {l : Launch} {p : Program} {e : Env} {s : State} {m : MethodId} {args : Array Value} {below : List Frame} {meth : Method} {c : Code} {D : va_G} {g : Nat → Nat} {cI cJ : ClassId} (C : gx_C p s m args meth c cX3_meetsRoads 3 none RX3) (hK : va_K D gcl [(cI, .int), (cJ, .long)] s) {M : MS} {a1 : Int32} {s0 : Int32} {k2 : MS → Int32 → Prop} {Q : MS → Prop} (h : tj_X3_meetsRoads_36 M a1 s0 k2 Q) (hk2 : ∀ (M : MS) (a1 : Int32), k2 M a1 → gx_W p l e (headSpec (ws_ yX3_meetsRoads cX3_meetsRoads 3 none) rmX3_meetsRoads).room s m args below meth c 3 (tm_I D g cI cJ s M) 0 0 (MQ below (va_Qv Q (tm_B D g cI cJ s.heap.size) (tm_A g s.heap.size)) args s 0 0 (tm_A g s.heap.size)) 2 [(0, .ref (g 0)), (1, .int a1)] []) : gx_W p l e (headSpec (ws_ yX3_meetsRoads cX3_meetsRoads 3 none) rmX3_meetsRoads).room s m args below meth c 3 (tm_I D g cI cJ s M) 0 0 (MQ below (va_Qv Q (tm_B D g cI cJ s.heap.size) (tm_A g s.heap.size)) args s 0 0 (tm_A g s.heap.size)) 36 [(0, .ref (g 0)), (1, .int a1)] [.int s0] := by
  unfold tj_X3_meetsRoads_36 at h
  refine gx_istore_n (lv' := [(2, .int s0), (0, .ref (g 0)), (1, .int a1)]) C dX3_meetsRoads_36 rfl (by decide) rfl ?_
  refine gx_aload_n C dX3_meetsRoads_37 rfl 1 rfl ?_
  refine tm_get C hK 1 (by decide) q2301 rfl rfl dX3_meetsRoads_38 ?_
  refine gx_iconst (v := 1) C dX3_meetsRoads_41 (by decide) ?_
  refine gx_iload_n C dX3_meetsRoads_42 rfl 0 rfl ?_
  refine gx_if_le (tgt := 64) C dX3_meetsRoads_43 (by decide) (fun z => ?_) (fun z => ?_)
  · replace h := h.1 z
    refine gx_aload_n C dX3_meetsRoads_64 rfl 1 rfl ?_
    refine tm_get C hK 1 (by decide) q2301 rfl rfl dX3_meetsRoads_65 ?_
    refine gx_iconst (v := 1) C dX3_meetsRoads_68 (by decide) ?_
    obtain ⟨g69, h⟩ := h
    refine tm_ald0 C hK g69 dX3_meetsRoads_69 ?_
    refine gx_sub [1, 2, 0] rfl ?_
    exact tb_X3_meetsRoads_70 C hK h hk2
  · replace h := h.2 z
    refine gx_bipush (v := 75) C dX3_meetsRoads_46 (by decide) ?_
    refine gx_aload_n C dX3_meetsRoads_48 rfl 1 rfl ?_
    refine tm_get C hK 1 (by decide) q2301 rfl rfl dX3_meetsRoads_49 ?_
    refine gx_iconst (v := 1) C dX3_meetsRoads_52 (by decide) ?_
    obtain ⟨g53, h⟩ := h
    refine tm_ald0 C hK g53 dX3_meetsRoads_53 ?_
    refine gx_imul C dX3_meetsRoads_54 ?_
    refine gx_bipush (v := 74) C dX3_meetsRoads_55 (by decide) ?_
    refine gx_iadd C dX3_meetsRoads_57 ?_
    refine gx_ldc (v := 65537) C (C.t _ q2545) dX3_meetsRoads_58 ?_
    refine gx_irem C dX3_meetsRoads_60 (by decide) ?_
    refine gx_goto (tgt := 70) C dX3_meetsRoads_61 (by decide) ?_
    refine gx_sub [1, 2, 0] rfl ?_
    exact tb_X3_meetsRoads_70 C hK h hk2
def tj_X3_meetsRoads_2 (M : MS) (a1 : Int32) (k2 : MS → Int32 → Prop) (Q : MS → Prop) : Prop :=
  (vp_in 3 754 ∧ (((ms_r M 0 3) ≤ a1 → Q M) ∧ (¬ (ms_r M 0 3) ≤ a1 → tw_X3_of M a1 5 (fun r15 M15 => ((r15 = (-1) → tj_X3_meetsRoads_36 M15 a1 0 k2 Q) ∧ (¬ (r15 = (-1)) → tw_X3_of M15 a1 5 (fun r30 M30 => tw_X3_risk M30 r30 (fun r33 M33 => tj_X3_meetsRoads_36 M33 a1 r33 k2 Q))))))))
theorem tb_X3_meetsRoads_2 {l : Launch} {p : Program} {e : Env} {s : State} {m : MethodId} {args : Array Value} {below : List Frame} {meth : Method} {c : Code} {D : va_G} {g : Nat → Nat} {cI cJ : ClassId} (C : gx_C p s m args meth c cX3_meetsRoads 3 none RX3) (hK : va_K D gcl [(cI, .int), (cJ, .long)] s) {M : MS} {a1 : Int32} {k2 : MS → Int32 → Prop} {Q : MS → Prop} (h : tj_X3_meetsRoads_2 M a1 k2 Q) (hk2 : ∀ (M : MS) (a1 : Int32), k2 M a1 → gx_W p l e (headSpec (ws_ yX3_meetsRoads cX3_meetsRoads 3 none) rmX3_meetsRoads).room s m args below meth c 3 (tm_I D g cI cJ s M) 0 0 (MQ below (va_Qv Q (tm_B D g cI cJ s.heap.size) (tm_A g s.heap.size)) args s 0 0 (tm_A g s.heap.size)) 2 [(0, .ref (g 0)), (1, .int a1)] []) : gx_W p l e (headSpec (ws_ yX3_meetsRoads cX3_meetsRoads 3 none) rmX3_meetsRoads).room s m args below meth c 3 (tm_I D g cI cJ s M) 0 0 (MQ below (va_Qv Q (tm_B D g cI cJ s.heap.size) (tm_A g s.heap.size)) args s 0 0 (tm_A g s.heap.size)) 2 [(0, .ref (g 0)), (1, .int a1)] [] := by
  unfold tj_X3_meetsRoads_2 at h
  refine gx_iload_n C dX3_meetsRoads_2 rfl 1 rfl ?_
  refine gx_aload_n C dX3_meetsRoads_3 rfl 0 rfl ?_
  refine tm_get C hK 1 (by decide) q2301 rfl rfl dX3_meetsRoads_4 ?_
  refine gx_iconst (v := 3) C dX3_meetsRoads_7 (by decide) ?_
  obtain ⟨g8, h⟩ := h
  refine tm_ald0 C hK g8 dX3_meetsRoads_8 ?_
  refine gx_icmp_ge (tgt := 103) C dX3_meetsRoads_9 (by decide) (fun z => ?_) (fun z => ?_)
  · replace h := h.1 z
    exact tm_vret C hK h dX3_meetsRoads_103
  · replace h := h.2 z
    refine gx_aload_n C dX3_meetsRoads_12 rfl 0 rfl ?_
    refine gx_iload_n C dX3_meetsRoads_13 rfl 1 rfl ?_
    refine gx_iconst (v := 5) C dX3_meetsRoads_14 (by decide) ?_
    refine tm_calli (rest := []) C hK (fun sz => tk_X3_of h) (cwV 2 C.t (lw_V q2435 q2437 qs57 q130 q2438) rfl rfl rfl ⟨rfl, dmX3_of⟩ ⟨Nat.le_of_ble_eq_true rfl, Nat.le_of_ble_eq_true rfl⟩) rfl rfl (Nat.le_of_ble_eq_true rfl) dX3_meetsRoads_15 (fun r15 M15 h => ?_)
    refine gx_iconst (v := (-1)) C dX3_meetsRoads_18 (by decide) ?_
    refine gx_icmp_ne (tgt := 26) C dX3_meetsRoads_19 (by decide) (fun z => ?_) (fun z => ?_)
    · replace h := h.2 z
      refine gx_aload_n C dX3_meetsRoads_26 rfl 0 rfl ?_
      refine gx_aload_n C dX3_meetsRoads_27 rfl 0 rfl ?_
      refine gx_iload_n C dX3_meetsRoads_28 rfl 1 rfl ?_
      refine gx_iconst (v := 5) C dX3_meetsRoads_29 (by decide) ?_
      refine tm_calli (rest := [.ref (g 0)]) C hK (fun sz => tk_X3_of h) (cwV 2 C.t (lw_V q2435 q2437 qs57 q130 q2438) rfl rfl rfl ⟨rfl, dmX3_of⟩ ⟨Nat.le_of_ble_eq_true rfl, Nat.le_of_ble_eq_true rfl⟩) rfl rfl (Nat.le_of_ble_eq_true rfl) dX3_meetsRoads_30 (fun r30 M30 h => ?_)
      refine tm_calli (rest := []) C hK (fun sz => tk_X3_risk h) (cwV 1 C.t (lw_V q2541 q2543 qs76 q130 q2544) rfl rfl rfl ⟨rfl, dmX3_risk⟩ ⟨Nat.le_of_ble_eq_true rfl, Nat.le_of_ble_eq_true rfl⟩) rfl rfl (Nat.le_of_ble_eq_true rfl) dX3_meetsRoads_33 (fun r33 M33 h => ?_)
      exact tb_X3_meetsRoads_36 C hK h hk2
    · replace h := h.1 z
      refine gx_iconst (v := 0) C dX3_meetsRoads_22 (by decide) ?_
      refine gx_goto (tgt := 36) C dX3_meetsRoads_23 (by decide) ?_
      exact tb_X3_meetsRoads_36 C hK h hk2
def tl_X3_meetsRoads_2 (Q : MS → Prop) : Nat → MS → Int32 → Prop
  | 0, _, _ => False
  | n + 1, M, a1 => tj_X3_meetsRoads_2 M a1 (fun M a1 => tl_X3_meetsRoads_2 Q n M a1) Q
theorem te_X3_meetsRoads_2 {l : Launch} {p : Program} {e : Env} {s : State} {m : MethodId} {args : Array Value} {below : List Frame} {meth : Method} {c : Code} {D : va_G} {g : Nat → Nat} {cI cJ : ClassId} (C : gx_C p s m args meth c cX3_meetsRoads 3 none RX3) (hK : va_K D gcl [(cI, .int), (cJ, .long)] s) {Q : MS → Prop}  (n : Nat) : ∀ (M : MS) (a1 : Int32), tl_X3_meetsRoads_2 Q n M a1 → gx_W p l e (headSpec (ws_ yX3_meetsRoads cX3_meetsRoads 3 none) rmX3_meetsRoads).room s m args below meth c 3 (tm_I D g cI cJ s M) 0 0 (MQ below (va_Qv Q (tm_B D g cI cJ s.heap.size) (tm_A g s.heap.size)) args s 0 0 (tm_A g s.heap.size)) 2 [(0, .ref (g 0)), (1, .int a1)] [] := by
  induction n with
  | zero => intro M a1 h; exact False.elim h
  | succ n ih => intro M a1 h; exact tb_X3_meetsRoads_2 C hK (show tj_X3_meetsRoads_2 M a1 (fun M a1 => tl_X3_meetsRoads_2 Q n M a1) Q from h) (fun M a1 h => ih M a1 h)
def tw_X3_meetsRoads (M : MS) (Q : MS → Prop) : Prop :=
  ∃ n : Nat, tl_X3_meetsRoads_2 Q n M 0
theorem tk_X3_meetsRoads {l : Launch} {D : va_G} {g : Nat → Nat} {cI cJ : ClassId} {sz : Nat} {M : MS} {Q : MS → Prop} (h : tw_X3_meetsRoads M Q) : tm_Met l yX3_meetsRoads cX3_meetsRoads 3 none rmX3_meetsRoads [] D g cI cJ sz M (va_Qv Q (tm_B D g cI cJ sz) (tm_A g sz)) := by
  refine tm_entry (by decide) (Nat.le_of_ble_eq_true rfl) (fun p e s m args below meth c hsz C hK => ?_)
  subst hsz
  unfold tw_X3_meetsRoads at h
  show gx_W p l e (headSpec (ws_ yX3_meetsRoads cX3_meetsRoads 3 none) rmX3_meetsRoads).room s m args below meth c 3 (tm_I D g cI cJ s M) 0 0 (MQ below (va_Qv Q (tm_B D g cI cJ s.heap.size) (tm_A g s.heap.size)) args s 0 0 (tm_A g s.heap.size)) 0 [(0, .ref (g 0))] []
  refine gx_iconst (v := 0) C dX3_meetsRoads_0 (by decide) ?_
  refine gx_istore_n (lv' := [(1, .int 0), (0, .ref (g 0))]) C dX3_meetsRoads_1 rfl (by decide) rfl ?_
  refine gx_sub [1, 0] rfl ?_
  obtain ⟨n, h⟩ := h
  exact te_X3_meetsRoads_2 C hK n M 0 h
/-! ages()V -/
abbrev rmX3_ages : Room := { frames := 3, cells := 0, slots := 0, locals := 69 }
theorem dmX3_ages : yX3_ages.cls ≠ "java/lang/invoke/MethodHandle" ∧ yX3_ages.cls ≠ "java/lang/invoke/VarHandle" ∧ (parseMethodDescriptor yX3_ages.desc).map (fun d => d.parameters.length) = some 0 := by decide +kernel
def tj_X3_ages_87 (M : MS) (a1 : Int32) (k2 : MS → Int32 → Prop) (Q : MS → Prop) : Prop :=
  k2 M a1
theorem tb_X3_ages_87 {l : Launch} {p : Program} {e : Env} {s : State} {m : MethodId} {args : Array Value} {below : List Frame} {meth : Method} {c : Code} {D : va_G} {g : Nat → Nat} {cI cJ : ClassId} (C : gx_C p s m args meth c cX3_ages 3 none RX3) (hK : va_K D gcl [(cI, .int), (cJ, .long)] s) {M : MS} {a1 : Int32} {k2 : MS → Int32 → Prop} {Q : MS → Prop} (h : tj_X3_ages_87 M a1 k2 Q) (hk2 : ∀ (M : MS) (a1 : Int32), k2 M a1 → gx_W p l e (headSpec (ws_ yX3_ages cX3_ages 3 none) rmX3_ages).room s m args below meth c 3 (tm_I D g cI cJ s M) 0 0 (MQ below (va_Qv Q (tm_B D g cI cJ s.heap.size) (tm_A g s.heap.size)) args s 0 0 (tm_A g s.heap.size)) 2 [(0, .ref (g 0)), (1, .int a1)] []) : gx_W p l e (headSpec (ws_ yX3_ages cX3_ages 3 none) rmX3_ages).room s m args below meth c 3 (tm_I D g cI cJ s M) 0 0 (MQ below (va_Qv Q (tm_B D g cI cJ s.heap.size) (tm_A g s.heap.size)) args s 0 0 (tm_A g s.heap.size)) 87 [(0, .ref (g 0)), (1, .int a1)] [] := by
  unfold tj_X3_ages_87 at h
  refine gx_goto (tgt := 2) C dX3_ages_87 (by decide) ?_
  exact hk2 M a1 h
def tj_X3_ages_84 (M : MS) (a1 : Int32) (k2 : MS → Int32 → Prop) (Q : MS → Prop) : Prop :=
  tj_X3_ages_87 M (a1 + 1) k2 Q
theorem tb_X3_ages_84 {l : Launch} {p : Program} {e : Env} {s : State} {m : MethodId} {args : Array Value} {below : List Frame} {meth : Method} {c : Code} {D : va_G} {g : Nat → Nat} {cI cJ : ClassId} (C : gx_C p s m args meth c cX3_ages 3 none RX3) (hK : va_K D gcl [(cI, .int), (cJ, .long)] s) {M : MS} {a1 : Int32} {k2 : MS → Int32 → Prop} {Q : MS → Prop} (h : tj_X3_ages_84 M a1 k2 Q) (hk2 : ∀ (M : MS) (a1 : Int32), k2 M a1 → gx_W p l e (headSpec (ws_ yX3_ages cX3_ages 3 none) rmX3_ages).room s m args below meth c 3 (tm_I D g cI cJ s M) 0 0 (MQ below (va_Qv Q (tm_B D g cI cJ s.heap.size) (tm_A g s.heap.size)) args s 0 0 (tm_A g s.heap.size)) 2 [(0, .ref (g 0)), (1, .int a1)] []) : gx_W p l e (headSpec (ws_ yX3_ages cX3_ages 3 none) rmX3_ages).room s m args below meth c 3 (tm_I D g cI cJ s M) 0 0 (MQ below (va_Qv Q (tm_B D g cI cJ s.heap.size) (tm_A g s.heap.size)) args s 0 0 (tm_A g s.heap.size)) 84 [(0, .ref (g 0)), (1, .int a1)] [] := by
  unfold tj_X3_ages_84 at h
  refine gx_iinc (v := a1 + 1) (k := 1) (lv' := [(1, .int (a1 + 1)), (0, .ref (g 0))]) C dX3_ages_84 rfl rfl (by decide) rfl ?_
  refine gx_sub [1, 0] rfl ?_
  exact tb_X3_ages_87 C hK h hk2
def tj_X3_ages_67 (M : MS) (a1 : Int32) (a2 : Int32) (k2 : MS → Int32 → Prop) (Q : MS → Prop) : Prop :=
  tw_X3_dies M a1 (if a2 = 0 then 3 else 2) (fun M78 => tj_X3_ages_87 M78 a1 k2 Q)
theorem tb_X3_ages_67 {l : Launch} {p : Program} {e : Env} {s : State} {m : MethodId} {args : Array Value} {below : List Frame} {meth : Method} {c : Code} {D : va_G} {g : Nat → Nat} {cI cJ : ClassId} (C : gx_C p s m args meth c cX3_ages 3 none RX3) (hK : va_K D gcl [(cI, .int), (cJ, .long)] s) {M : MS} {a1 : Int32} {a2 : Int32} {k2 : MS → Int32 → Prop} {Q : MS → Prop} (h : tj_X3_ages_67 M a1 a2 k2 Q) (hk2 : ∀ (M : MS) (a1 : Int32), k2 M a1 → gx_W p l e (headSpec (ws_ yX3_ages cX3_ages 3 none) rmX3_ages).room s m args below meth c 3 (tm_I D g cI cJ s M) 0 0 (MQ below (va_Qv Q (tm_B D g cI cJ s.heap.size) (tm_A g s.heap.size)) args s 0 0 (tm_A g s.heap.size)) 2 [(0, .ref (g 0)), (1, .int a1)] []) : gx_W p l e (headSpec (ws_ yX3_ages cX3_ages 3 none) rmX3_ages).room s m args below meth c 3 (tm_I D g cI cJ s M) 0 0 (MQ below (va_Qv Q (tm_B D g cI cJ s.heap.size) (tm_A g s.heap.size)) args s 0 0 (tm_A g s.heap.size)) 67 [(0, .ref (g 0)), (1, .int a1), (2, .int a2)] [] := by
  unfold tj_X3_ages_67 at h
  refine gx_aload_n C dX3_ages_67 rfl 0 rfl ?_
  refine gx_iload_n C dX3_ages_68 rfl 1 rfl ?_
  refine gx_iload_n C dX3_ages_69 rfl 2 rfl ?_
  refine gx_phii (t := (if a2 = 0 then 3 else 2)) (pc2 := 78) (lv2 := [(0, .ref (g 0)), (1, .int a1), (2, .int a2)]) (rest2 := [.int a1, .ref (g 0)]) (fun key => ?_) ?_
  · refine gx_if_eq (tgt := 77) C dX3_ages_70 (by decide) (fun z1 => ?_) (fun z1 => ?_)
    · refine gx_iconst (v := 3) C dX3_ages_77 (by decide) ?_
      exact gx_casti (if_pos z1) key
    · refine gx_iconst (v := 2) C dX3_ages_73 (by decide) ?_
      refine gx_goto (tgt := 78) C dX3_ages_74 (by decide) ?_
      exact gx_casti (if_neg z1) key
  refine tm_callv (rest := []) C hK (fun sz => tk_X3_dies h) (cwV 2 C.t (lw_V q2529 q2531 qs73 q130 q2532) rfl rfl rfl ⟨rfl, dmX3_dies⟩ ⟨Nat.le_of_ble_eq_true rfl, Nat.le_of_ble_eq_true rfl⟩) rfl rfl (Nat.le_of_ble_eq_true rfl) dX3_ages_78 (fun M78 h => ?_)
  refine gx_goto (tgt := 87) C dX3_ages_81 (by decide) ?_
  refine gx_sub [0, 1] rfl ?_
  exact tb_X3_ages_87 C hK h hk2
def tj_X3_ages_2 (M : MS) (a1 : Int32) (k2 : MS → Int32 → Prop) (Q : MS → Prop) : Prop :=
  (vp_in 3 754 ∧ (((ms_r M 0 3) ≤ a1 → Q M) ∧ (¬ (ms_r M 0 3) ≤ a1 → tw_X3_of M a1 2 (fun r18 M18 => tw_X3_puts M18 a1 2 (r18 + 1) (fun M23 => tw_X3_of M23 a1 2 (fun r29 M29 => ((((if r29 = 10 then 1 else 0) : Int32) = 0 → tw_X3_of M29 a1 5 (fun r50 M50 => ((r50 = (-1) → tw_X3_of M50 a1 2 (fun r60 M60 => ((r60 < 2 → tj_X3_ages_84 M60 a1 k2 Q) ∧ (¬ (r60 < 2) → tj_X3_ages_67 M60 a1 ((if r29 = 10 then 1 else 0)) k2 Q)))) ∧ (¬ (r50 = (-1)) → tj_X3_ages_84 M50 a1 k2 Q)))) ∧ (¬ ((if r29 = 10 then 1 else 0) : Int32) = 0 → tj_X3_ages_67 M29 a1 ((if r29 = 10 then 1 else 0)) k2 Q))))))))
theorem tb_X3_ages_2 {l : Launch} {p : Program} {e : Env} {s : State} {m : MethodId} {args : Array Value} {below : List Frame} {meth : Method} {c : Code} {D : va_G} {g : Nat → Nat} {cI cJ : ClassId} (C : gx_C p s m args meth c cX3_ages 3 none RX3) (hK : va_K D gcl [(cI, .int), (cJ, .long)] s) {M : MS} {a1 : Int32} {k2 : MS → Int32 → Prop} {Q : MS → Prop} (h : tj_X3_ages_2 M a1 k2 Q) (hk2 : ∀ (M : MS) (a1 : Int32), k2 M a1 → gx_W p l e (headSpec (ws_ yX3_ages cX3_ages 3 none) rmX3_ages).room s m args below meth c 3 (tm_I D g cI cJ s M) 0 0 (MQ below (va_Qv Q (tm_B D g cI cJ s.heap.size) (tm_A g s.heap.size)) args s 0 0 (tm_A g s.heap.size)) 2 [(0, .ref (g 0)), (1, .int a1)] []) : gx_W p l e (headSpec (ws_ yX3_ages cX3_ages 3 none) rmX3_ages).room s m args below meth c 3 (tm_I D g cI cJ s M) 0 0 (MQ below (va_Qv Q (tm_B D g cI cJ s.heap.size) (tm_A g s.heap.size)) args s 0 0 (tm_A g s.heap.size)) 2 [(0, .ref (g 0)), (1, .int a1)] [] := by
  unfold tj_X3_ages_2 at h
  refine gx_iload_n C dX3_ages_2 rfl 1 rfl ?_
  refine gx_aload_n C dX3_ages_3 rfl 0 rfl ?_
  refine tm_get C hK 1 (by decide) q2301 rfl rfl dX3_ages_4 ?_
  refine gx_iconst (v := 3) C dX3_ages_7 (by decide) ?_
  obtain ⟨g8, h⟩ := h
  refine tm_ald0 C hK g8 dX3_ages_8 ?_
  refine gx_icmp_ge (tgt := 90) C dX3_ages_9 (by decide) (fun z => ?_) (fun z => ?_)
  · replace h := h.1 z
    exact tm_vret C hK h dX3_ages_90
  · replace h := h.2 z
    refine gx_aload_n C dX3_ages_12 rfl 0 rfl ?_
    refine gx_iload_n C dX3_ages_13 rfl 1 rfl ?_
    refine gx_iconst (v := 2) C dX3_ages_14 (by decide) ?_
    refine gx_aload_n C dX3_ages_15 rfl 0 rfl ?_
    refine gx_iload_n C dX3_ages_16 rfl 1 rfl ?_
    refine gx_iconst (v := 2) C dX3_ages_17 (by decide) ?_
    refine tm_calli (rest := [.int 2, .int a1, .ref (g 0)]) C hK (fun sz => tk_X3_of h) (cwV 2 C.t (lw_V q2435 q2437 qs57 q130 q2438) rfl rfl rfl ⟨rfl, dmX3_of⟩ ⟨Nat.le_of_ble_eq_true rfl, Nat.le_of_ble_eq_true rfl⟩) rfl rfl (Nat.le_of_ble_eq_true rfl) dX3_ages_18 (fun r18 M18 h => ?_)
    refine gx_iconst (v := 1) C dX3_ages_21 (by decide) ?_
    refine gx_iadd C dX3_ages_22 ?_
    refine tm_callv (rest := []) C hK (fun sz => tk_X3_puts h) (cwV 3 C.t (lw_V q2439 q2441 qs58 q130 q2442) rfl rfl rfl ⟨rfl, dmX3_puts⟩ ⟨Nat.le_of_ble_eq_true rfl, Nat.le_of_ble_eq_true rfl⟩) rfl rfl (Nat.le_of_ble_eq_true rfl) dX3_ages_23 (fun M23 h => ?_)
    refine gx_aload_n C dX3_ages_26 rfl 0 rfl ?_
    refine gx_iload_n C dX3_ages_27 rfl 1 rfl ?_
    refine gx_iconst (v := 2) C dX3_ages_28 (by decide) ?_
    refine tm_calli (rest := []) C hK (fun sz => tk_X3_of h) (cwV 2 C.t (lw_V q2435 q2437 qs57 q130 q2438) rfl rfl rfl ⟨rfl, dmX3_of⟩ ⟨Nat.le_of_ble_eq_true rfl, Nat.le_of_ble_eq_true rfl⟩) rfl rfl (Nat.le_of_ble_eq_true rfl) dX3_ages_29 (fun r29 M29 h => ?_)
    refine gx_bipush (v := 10) C dX3_ages_32 (by decide) ?_
    refine gx_phii (t := (if r29 = 10 then 1 else 0)) (pc2 := 42) (lv2 := [(0, .ref (g 0)), (1, .int a1)]) (rest2 := []) (fun key => ?_) ?_
    · refine gx_icmp_ne (tgt := 41) C dX3_ages_34 (by decide) (fun z1 => ?_) (fun z1 => ?_)
      · refine gx_iconst (v := 0) C dX3_ages_41 (by decide) ?_
        exact gx_casti (if_neg z1) key
      · refine gx_iconst (v := 1) C dX3_ages_37 (by decide) ?_
        refine gx_goto (tgt := 42) C dX3_ages_38 (by decide) ?_
        exact gx_casti (if_pos z1) key
    refine gx_istore_n (lv' := [(2, .int ((if r29 = 10 then 1 else 0))), (0, .ref (g 0)), (1, .int a1)]) C dX3_ages_42 rfl (by decide) rfl ?_
    refine gx_iload_n C dX3_ages_43 rfl 0 rfl ?_
    refine gx_if_ne (tgt := 67) C dX3_ages_44 (by decide) (fun z => ?_) (fun z => ?_)
    · replace h := h.2 z
      refine gx_sub [1, 2, 0] rfl ?_
      exact tb_X3_ages_67 C hK h hk2
    · replace h := h.1 z
      refine gx_aload_n C dX3_ages_47 rfl 1 rfl ?_
      refine gx_iload_n C dX3_ages_48 rfl 2 rfl ?_
      refine gx_iconst (v := 5) C dX3_ages_49 (by decide) ?_
      refine tm_calli (rest := []) C hK (fun sz => tk_X3_of h) (cwV 2 C.t (lw_V q2435 q2437 qs57 q130 q2438) rfl rfl rfl ⟨rfl, dmX3_of⟩ ⟨Nat.le_of_ble_eq_true rfl, Nat.le_of_ble_eq_true rfl⟩) rfl rfl (Nat.le_of_ble_eq_true rfl) dX3_ages_50 (fun r50 M50 h => ?_)
      refine gx_iconst (v := (-1)) C dX3_ages_53 (by decide) ?_
      refine gx_icmp_ne (tgt := 84) C dX3_ages_54 (by decide) (fun z => ?_) (fun z => ?_)
      · replace h := h.2 z
        refine gx_sub [1, 2] rfl ?_
        exact tb_X3_ages_84 C hK h hk2
      · replace h := h.1 z
        refine gx_aload_n C dX3_ages_57 rfl 1 rfl ?_
        refine gx_iload_n C dX3_ages_58 rfl 2 rfl ?_
        refine gx_iconst (v := 2) C dX3_ages_59 (by decide) ?_
        refine tm_calli (rest := []) C hK (fun sz => tk_X3_of h) (cwV 2 C.t (lw_V q2435 q2437 qs57 q130 q2438) rfl rfl rfl ⟨rfl, dmX3_of⟩ ⟨Nat.le_of_ble_eq_true rfl, Nat.le_of_ble_eq_true rfl⟩) rfl rfl (Nat.le_of_ble_eq_true rfl) dX3_ages_60 (fun r60 M60 h => ?_)
        refine gx_iconst (v := 2) C dX3_ages_63 (by decide) ?_
        refine gx_icmp_lt (tgt := 84) C dX3_ages_64 (by decide) (fun z => ?_) (fun z => ?_)
        · replace h := h.1 z
          refine gx_sub [1, 2] rfl ?_
          exact tb_X3_ages_84 C hK h hk2
        · replace h := h.2 z
          refine gx_sub [1, 2, 0] rfl ?_
          exact tb_X3_ages_67 C hK h hk2
def tl_X3_ages_2 (Q : MS → Prop) : Nat → MS → Int32 → Prop
  | 0, _, _ => False
  | n + 1, M, a1 => tj_X3_ages_2 M a1 (fun M a1 => tl_X3_ages_2 Q n M a1) Q
theorem te_X3_ages_2 {l : Launch} {p : Program} {e : Env} {s : State} {m : MethodId} {args : Array Value} {below : List Frame} {meth : Method} {c : Code} {D : va_G} {g : Nat → Nat} {cI cJ : ClassId} (C : gx_C p s m args meth c cX3_ages 3 none RX3) (hK : va_K D gcl [(cI, .int), (cJ, .long)] s) {Q : MS → Prop}  (n : Nat) : ∀ (M : MS) (a1 : Int32), tl_X3_ages_2 Q n M a1 → gx_W p l e (headSpec (ws_ yX3_ages cX3_ages 3 none) rmX3_ages).room s m args below meth c 3 (tm_I D g cI cJ s M) 0 0 (MQ below (va_Qv Q (tm_B D g cI cJ s.heap.size) (tm_A g s.heap.size)) args s 0 0 (tm_A g s.heap.size)) 2 [(0, .ref (g 0)), (1, .int a1)] [] := by
  induction n with
  | zero => intro M a1 h; exact False.elim h
  | succ n ih => intro M a1 h; exact tb_X3_ages_2 C hK (show tj_X3_ages_2 M a1 (fun M a1 => tl_X3_ages_2 Q n M a1) Q from h) (fun M a1 h => ih M a1 h)
def tw_X3_ages (M : MS) (Q : MS → Prop) : Prop :=
  ∃ n : Nat, tl_X3_ages_2 Q n M 0
theorem tk_X3_ages {l : Launch} {D : va_G} {g : Nat → Nat} {cI cJ : ClassId} {sz : Nat} {M : MS} {Q : MS → Prop} (h : tw_X3_ages M Q) : tm_Met l yX3_ages cX3_ages 3 none rmX3_ages [] D g cI cJ sz M (va_Qv Q (tm_B D g cI cJ sz) (tm_A g sz)) := by
  refine tm_entry (by decide) (Nat.le_of_ble_eq_true rfl) (fun p e s m args below meth c hsz C hK => ?_)
  subst hsz
  unfold tw_X3_ages at h
  show gx_W p l e (headSpec (ws_ yX3_ages cX3_ages 3 none) rmX3_ages).room s m args below meth c 3 (tm_I D g cI cJ s M) 0 0 (MQ below (va_Qv Q (tm_B D g cI cJ s.heap.size) (tm_A g s.heap.size)) args s 0 0 (tm_A g s.heap.size)) 0 [(0, .ref (g 0))] []
  refine gx_iconst (v := 0) C dX3_ages_0 (by decide) ?_
  refine gx_istore_n (lv' := [(1, .int 0), (0, .ref (g 0))]) C dX3_ages_1 rfl (by decide) rfl ?_
  refine gx_sub [1, 0] rfl ?_
  obtain ⟨n, h⟩ := h
  exact te_X3_ages_2 C hK n M 0 h
/-! reason(I)I -/
abbrev rmX3_reason : Room := { frames := 6, cells := 0, slots := 0, locals := 136 }
theorem dmX3_reason : yX3_reason.cls ≠ "java/lang/invoke/MethodHandle" ∧ yX3_reason.cls ≠ "java/lang/invoke/VarHandle" ∧ (parseMethodDescriptor yX3_reason.desc).map (fun d => d.parameters.length) = some 1 := by decide +kernel
def tj_X3_reason_87 (M : MS) (s0 : Int32) (Q : Int32 → MS → Prop) : Prop :=
  Q s0 M
theorem tb_X3_reason_87 {l : Launch} {p : Program} {e : Env} {s : State} {m : MethodId} {args : Array Value} {below : List Frame} {meth : Method} {c : Code} {D : va_G} {g : Nat → Nat} {cI cJ : ClassId} (C : gx_C p s m args meth c cX3_reason 4 (some .int) RX3) (hK : va_K D gcl [(cI, .int), (cJ, .long)] s) {M : MS} {s0 : Int32} {Q : Int32 → MS → Prop} (h : tj_X3_reason_87 M s0 Q)  : gx_W p l e (headSpec (ws_ yX3_reason cX3_reason 4 (some .int)) rmX3_reason).room s m args below meth c 4 (tm_I D g cI cJ s M) 0 0 (MQ below (va_Qi Q (tm_B D g cI cJ s.heap.size) (tm_A g s.heap.size)) args s 0 0 (tm_A g s.heap.size)) 87 [] [.int s0] := by
  unfold tj_X3_reason_87 at h
  exact tm_iret C hK h dX3_reason_87
def tj_X3_reason_52 (M : MS) (Q : Int32 → MS → Prop) : Prop :=
  tj_X3_reason_87 M 3 Q
theorem tb_X3_reason_52 {l : Launch} {p : Program} {e : Env} {s : State} {m : MethodId} {args : Array Value} {below : List Frame} {meth : Method} {c : Code} {D : va_G} {g : Nat → Nat} {cI cJ : ClassId} (C : gx_C p s m args meth c cX3_reason 4 (some .int) RX3) (hK : va_K D gcl [(cI, .int), (cJ, .long)] s) {M : MS} {Q : Int32 → MS → Prop} (h : tj_X3_reason_52 M Q)  : gx_W p l e (headSpec (ws_ yX3_reason cX3_reason 4 (some .int)) rmX3_reason).room s m args below meth c 4 (tm_I D g cI cJ s M) 0 0 (MQ below (va_Qi Q (tm_B D g cI cJ s.heap.size) (tm_A g s.heap.size)) args s 0 0 (tm_A g s.heap.size)) 52 [] [] := by
  unfold tj_X3_reason_52 at h
  refine gx_iconst (v := 3) C dX3_reason_52 (by decide) ?_
  refine gx_goto (tgt := 87) C dX3_reason_53 (by decide) ?_
  exact tb_X3_reason_87 C hK h
def tw_X3_reason (M : MS) (a1 : Int32) (Q : Int32 → MS → Prop) : Prop :=
  tw_X3_owlIn M a1 0 (fun r3 M3 => tw_X3_owlIn M3 a1 1 (fun r10 M10 => ((r3 = (-1) → tj_X3_reason_87 M10 1 Q) ∧ (¬ (r3 = (-1)) → ((r10 = (-1) → tj_X3_reason_87 M10 2 Q) ∧ (¬ (r10 = (-1)) → tw_X3_of M10 r3 2 (fun r35 M35 => ((r35 < 1 → tj_X3_reason_52 M35 Q) ∧ (¬ (r35 < 1) → tw_X3_of M35 r10 2 (fun r45 M45 => ((1 ≤ r45 → tw_X3_share M45 a1 (fun r58 M58 => ((160 ≤ r58 → (vp_in 3 754 ∧ tj_X3_reason_87 M58 ((if (ms_r M58 0 3) = 40 then 5 else 0)) Q)) ∧ (¬ (160 ≤ r58) → tj_X3_reason_87 M58 4 Q)))) ∧ (¬ (1 ≤ r45) → tj_X3_reason_52 M45 Q))))))))))))
theorem tk_X3_reason {l : Launch} {D : va_G} {g : Nat → Nat} {cI cJ : ClassId} {sz : Nat} {M : MS} {a1 : Int32} {Q : Int32 → MS → Prop} (h : tw_X3_reason M a1 Q) : tm_Met l yX3_reason cX3_reason 4 (some .int) rmX3_reason [.int a1] D g cI cJ sz M (va_Qi Q (tm_B D g cI cJ sz) (tm_A g sz)) := by
  refine tm_entry (by decide) (Nat.le_of_ble_eq_true rfl) (fun p e s m args below meth c hsz C hK => ?_)
  subst hsz
  unfold tw_X3_reason at h
  show gx_W p l e (headSpec (ws_ yX3_reason cX3_reason 4 (some .int)) rmX3_reason).room s m args below meth c 4 (tm_I D g cI cJ s M) 0 0 (MQ below (va_Qi Q (tm_B D g cI cJ s.heap.size) (tm_A g s.heap.size)) args s 0 0 (tm_A g s.heap.size)) 0 [(0, .ref (g 0)), (1, .int a1)] []
  refine gx_aload_n C dX3_reason_0 rfl 0 rfl ?_
  refine gx_iload_n C dX3_reason_1 rfl 1 rfl ?_
  refine gx_iconst (v := 0) C dX3_reason_2 (by decide) ?_
  refine tm_calli (rest := []) C hK (fun sz => tk_X3_owlIn h) (cwV 2 C.t (lw_V q2431 q2433 qs56 q130 q2434) rfl rfl rfl ⟨rfl, dmX3_owlIn⟩ ⟨Nat.le_of_ble_eq_true rfl, Nat.le_of_ble_eq_true rfl⟩) rfl rfl (Nat.le_of_ble_eq_true rfl) dX3_reason_3 (fun r3 M3 h => ?_)
  refine gx_istore_n (lv' := [(2, .int r3), (0, .ref (g 0)), (1, .int a1)]) C dX3_reason_6 rfl (by decide) rfl ?_
  refine gx_aload_n C dX3_reason_7 rfl 1 rfl ?_
  refine gx_iload_n C dX3_reason_8 rfl 2 rfl ?_
  refine gx_iconst (v := 1) C dX3_reason_9 (by decide) ?_
  refine tm_calli (rest := []) C hK (fun sz => tk_X3_owlIn h) (cwV 2 C.t (lw_V q2431 q2433 qs56 q130 q2434) rfl rfl rfl ⟨rfl, dmX3_owlIn⟩ ⟨Nat.le_of_ble_eq_true rfl, Nat.le_of_ble_eq_true rfl⟩) rfl rfl (Nat.le_of_ble_eq_true rfl) dX3_reason_10 (fun r10 M10 h => ?_)
  refine gx_istore_n (lv' := [(3, .int r10), (2, .int r3), (0, .ref (g 0)), (1, .int a1)]) C dX3_reason_13 rfl (by decide) rfl ?_
  refine gx_iload_n C dX3_reason_14 rfl 1 rfl ?_
  refine gx_iconst (v := (-1)) C dX3_reason_15 (by decide) ?_
  refine gx_icmp_ne (tgt := 23) C dX3_reason_16 (by decide) (fun z => ?_) (fun z => ?_)
  · replace h := h.2 z
    refine gx_iload_n C dX3_reason_23 rfl 0 rfl ?_
    refine gx_iconst (v := (-1)) C dX3_reason_24 (by decide) ?_
    refine gx_icmp_ne (tgt := 32) C dX3_reason_25 (by decide) (fun z => ?_) (fun z => ?_)
    · replace h := h.2 z
      refine gx_aload_n C dX3_reason_32 rfl 2 rfl ?_
      refine gx_iload_n C dX3_reason_33 rfl 1 rfl ?_
      refine gx_iconst (v := 2) C dX3_reason_34 (by decide) ?_
      refine tm_calli (rest := []) C hK (fun sz => tk_X3_of h) (cwV 2 C.t (lw_V q2435 q2437 qs57 q130 q2438) rfl rfl rfl ⟨rfl, dmX3_of⟩ ⟨Nat.le_of_ble_eq_true rfl, Nat.le_of_ble_eq_true rfl⟩) rfl rfl (Nat.le_of_ble_eq_true rfl) dX3_reason_35 (fun r35 M35 h => ?_)
      refine gx_iconst (v := 1) C dX3_reason_38 (by decide) ?_
      refine gx_icmp_lt (tgt := 52) C dX3_reason_39 (by decide) (fun z => ?_) (fun z => ?_)
      · replace h := h.1 z
        refine gx_sub [] rfl ?_
        exact tb_X3_reason_52 C hK h
      · replace h := h.2 z
        refine gx_aload_n C dX3_reason_42 rfl 2 rfl ?_
        refine gx_iload_n C dX3_reason_43 rfl 0 rfl ?_
        refine gx_iconst (v := 2) C dX3_reason_44 (by decide) ?_
        refine tm_calli (rest := []) C hK (fun sz => tk_X3_of h) (cwV 2 C.t (lw_V q2435 q2437 qs57 q130 q2438) rfl rfl rfl ⟨rfl, dmX3_of⟩ ⟨Nat.le_of_ble_eq_true rfl, Nat.le_of_ble_eq_true rfl⟩) rfl rfl (Nat.le_of_ble_eq_true rfl) dX3_reason_45 (fun r45 M45 h => ?_)
        refine gx_iconst (v := 1) C dX3_reason_48 (by decide) ?_
        refine gx_icmp_ge (tgt := 56) C dX3_reason_49 (by decide) (fun z => ?_) (fun z => ?_)
        · replace h := h.1 z
          refine gx_aload_n C dX3_reason_56 rfl 2 rfl ?_
          refine gx_iload_n C dX3_reason_57 rfl 3 rfl ?_
          refine tm_calli (rest := []) C hK (fun sz => tk_X3_share h) (cwV 1 C.t (lw_V q2517 q2519 qs70 q130 q2520) rfl rfl rfl ⟨rfl, dmX3_share⟩ ⟨Nat.le_of_ble_eq_true rfl, Nat.le_of_ble_eq_true rfl⟩) rfl rfl (Nat.le_of_ble_eq_true rfl) dX3_reason_58 (fun r58 M58 h => ?_)
          refine gx_sipush (v := 160) C dX3_reason_61 (by decide) ?_
          refine gx_icmp_ge (tgt := 71) C dX3_reason_64 (by decide) (fun z => ?_) (fun z => ?_)
          · replace h := h.1 z
            refine gx_aload_n C dX3_reason_71 rfl 2 rfl ?_
            refine tm_get C hK 1 (by decide) q2301 rfl rfl dX3_reason_72 ?_
            refine gx_iconst (v := 3) C dX3_reason_75 (by decide) ?_
            obtain ⟨g76, h⟩ := h
            refine tm_ald0 C hK g76 dX3_reason_76 ?_
            refine gx_bipush (v := 40) C dX3_reason_77 (by decide) ?_
            refine gx_phii (t := (if (ms_r M58 0 3) = 40 then 5 else 0)) (pc2 := 87) (lv2 := [(3, .int r10), (2, .int r3), (0, .ref (g 0)), (1, .int a1)]) (rest2 := []) (fun key => ?_) ?_
            · refine gx_icmp_ne (tgt := 86) C dX3_reason_79 (by decide) (fun z1 => ?_) (fun z1 => ?_)
              · refine gx_iconst (v := 0) C dX3_reason_86 (by decide) ?_
                exact gx_casti (if_neg z1) key
              · refine gx_iconst (v := 5) C dX3_reason_82 (by decide) ?_
                refine gx_goto (tgt := 87) C dX3_reason_83 (by decide) ?_
                exact gx_casti (if_pos z1) key
            refine gx_sub [] rfl ?_
            exact tb_X3_reason_87 C hK h
          · replace h := h.2 z
            refine gx_iconst (v := 4) C dX3_reason_67 (by decide) ?_
            refine gx_goto (tgt := 87) C dX3_reason_68 (by decide) ?_
            refine gx_sub [] rfl ?_
            exact tb_X3_reason_87 C hK h
        · replace h := h.2 z
          refine gx_sub [] rfl ?_
          exact tb_X3_reason_52 C hK h
    · replace h := h.1 z
      refine gx_iconst (v := 2) C dX3_reason_28 (by decide) ?_
      refine gx_goto (tgt := 87) C dX3_reason_29 (by decide) ?_
      refine gx_sub [] rfl ?_
      exact tb_X3_reason_87 C hK h
  · replace h := h.1 z
    refine gx_iconst (v := 1) C dX3_reason_19 (by decide) ?_
    refine gx_goto (tgt := 87) C dX3_reason_20 (by decide) ?_
    refine gx_sub [] rfl ?_
    exact tb_X3_reason_87 C hK h
/-! young(I)I -/
abbrev rmX3_young : Room := { frames := 7, cells := 0, slots := 0, locals := 159 }
theorem dmX3_young : yX3_young.cls ≠ "java/lang/invoke/MethodHandle" ∧ yX3_young.cls ≠ "java/lang/invoke/VarHandle" ∧ (parseMethodDescriptor yX3_young.desc).map (fun d => d.parameters.length) = some 1 := by decide +kernel
def tj_X3_young_60 (M : MS) (s0 : Int32) (Q : Int32 → MS → Prop) : Prop :=
  Q s0 M
theorem tb_X3_young_60 {l : Launch} {p : Program} {e : Env} {s : State} {m : MethodId} {args : Array Value} {below : List Frame} {meth : Method} {c : Code} {D : va_G} {g : Nat → Nat} {cI cJ : ClassId} (C : gx_C p s m args meth c cX3_young 3 (some .int) RX3) (hK : va_K D gcl [(cI, .int), (cJ, .long)] s) {M : MS} {s0 : Int32} {Q : Int32 → MS → Prop} (h : tj_X3_young_60 M s0 Q)  : gx_W p l e (headSpec (ws_ yX3_young cX3_young 3 (some .int)) rmX3_young).room s m args below meth c 3 (tm_I D g cI cJ s M) 0 0 (MQ below (va_Qi Q (tm_B D g cI cJ s.heap.size) (tm_A g s.heap.size)) args s 0 0 (tm_A g s.heap.size)) 60 [] [.int s0] := by
  unfold tj_X3_young_60 at h
  exact tm_iret C hK h dX3_young_60
def tw_X3_young (M : MS) (a1 : Int32) (Q : Int32 → MS → Prop) : Prop :=
  tw_X3_reason M a1 (fun r2 M2 => ((r2 = 0 → tw_X3_share M2 a1 (fun r12 M12 => (∀ x33 : Int32, x33 = (if ((r12 / 80) - 1) ≤ 6 then ((r12 / 80) - 1) else 6) → (vp_in 3 754 ∧ ((x33 ≤ (40 - (ms_r M12 0 3)) → tj_X3_young_60 M12 x33 Q) ∧ (¬ (x33 ≤ (40 - (ms_r M12 0 3))) → (vp_in 3 754 ∧ tj_X3_young_60 M12 (40 - (ms_r M12 0 3)) Q))))))) ∧ (¬ (r2 = 0) → Q 0 M2)))
theorem tk_X3_young {l : Launch} {D : va_G} {g : Nat → Nat} {cI cJ : ClassId} {sz : Nat} {M : MS} {a1 : Int32} {Q : Int32 → MS → Prop} (h : tw_X3_young M a1 Q) : tm_Met l yX3_young cX3_young 3 (some .int) rmX3_young [.int a1] D g cI cJ sz M (va_Qi Q (tm_B D g cI cJ sz) (tm_A g sz)) := by
  refine tm_entry (by decide) (Nat.le_of_ble_eq_true rfl) (fun p e s m args below meth c hsz C hK => ?_)
  subst hsz
  unfold tw_X3_young at h
  show gx_W p l e (headSpec (ws_ yX3_young cX3_young 3 (some .int)) rmX3_young).room s m args below meth c 3 (tm_I D g cI cJ s M) 0 0 (MQ below (va_Qi Q (tm_B D g cI cJ s.heap.size) (tm_A g s.heap.size)) args s 0 0 (tm_A g s.heap.size)) 0 [(0, .ref (g 0)), (1, .int a1)] []
  refine gx_aload_n C dX3_young_0 rfl 0 rfl ?_
  refine gx_iload_n C dX3_young_1 rfl 1 rfl ?_
  refine tm_calli (rest := []) C hK (fun sz => tk_X3_reason h) (cwV 1 C.t (lw_V q2558 q2560 qs80 q130 q2561) rfl rfl rfl ⟨rfl, dmX3_reason⟩ ⟨Nat.le_of_ble_eq_true rfl, Nat.le_of_ble_eq_true rfl⟩) rfl rfl (Nat.le_of_ble_eq_true rfl) dX3_young_2 (fun r2 M2 h => ?_)
  refine gx_if_eq (tgt := 10) C dX3_young_5 (by decide) (fun z => ?_) (fun z => ?_)
  · replace h := h.1 z
    refine gx_aload_n C dX3_young_10 rfl 0 rfl ?_
    refine gx_iload_n C dX3_young_11 rfl 1 rfl ?_
    refine tm_calli (rest := []) C hK (fun sz => tk_X3_share h) (cwV 1 C.t (lw_V q2517 q2519 qs70 q130 q2520) rfl rfl rfl ⟨rfl, dmX3_share⟩ ⟨Nat.le_of_ble_eq_true rfl, Nat.le_of_ble_eq_true rfl⟩) rfl rfl (Nat.le_of_ble_eq_true rfl) dX3_young_12 (fun r12 M12 h => ?_)
    refine gx_bipush (v := 80) C dX3_young_15 (by decide) ?_
    refine gx_idiv C dX3_young_17 (by decide) ?_
    refine gx_iconst (v := 1) C dX3_young_18 (by decide) ?_
    refine gx_isub C dX3_young_19 ?_
    refine gx_istore_n (lv' := [(2, .int ((r12 / 80) - 1)), (0, .ref (g 0)), (1, .int a1)]) C dX3_young_20 rfl (by decide) rfl ?_
    refine gx_iload_n C dX3_young_21 rfl 0 rfl ?_
    refine gx_bipush (v := 6) C dX3_young_22 (by decide) ?_
    refine gx_phii (t := (if ((r12 / 80) - 1) ≤ 6 then ((r12 / 80) - 1) else 6)) (pc2 := 33) (lv2 := [(2, .int ((r12 / 80) - 1)), (0, .ref (g 0)), (1, .int a1)]) (rest2 := []) (fun key => ?_) ?_
    · refine gx_icmp_le (tgt := 32) C dX3_young_24 (by decide) (fun z1 => ?_) (fun z1 => ?_)
      · refine gx_iload_n C dX3_young_32 rfl 0 rfl ?_
        exact gx_casti (if_pos z1) key
      · refine gx_bipush (v := 6) C dX3_young_27 (by decide) ?_
        refine gx_goto (tgt := 33) C dX3_young_29 (by decide) ?_
        exact gx_casti (if_neg z1) key
    refine gx_topi (fun x33 e_x33 => ?_)
    replace h := h x33 e_x33
    refine gx_istore_n (lv' := [(2, .int x33), (0, .ref (g 0)), (1, .int a1)]) C dX3_young_33 rfl (by decide) rfl ?_
    refine gx_iload_n C dX3_young_34 rfl 0 rfl ?_
    refine gx_bipush (v := 40) C dX3_young_35 (by decide) ?_
    refine gx_aload_n C dX3_young_37 rfl 1 rfl ?_
    refine tm_get C hK 1 (by decide) q2301 rfl rfl dX3_young_38 ?_
    refine gx_iconst (v := 3) C dX3_young_41 (by decide) ?_
    obtain ⟨g42, h⟩ := h
    refine tm_ald0 C hK g42 dX3_young_42 ?_
    refine gx_isub C dX3_young_43 ?_
    refine gx_icmp_le (tgt := 59) C dX3_young_44 (by decide) (fun z => ?_) (fun z => ?_)
    · replace h := h.1 z
      refine gx_iload_n C dX3_young_59 rfl 0 rfl ?_
      refine gx_sub [] rfl ?_
      exact tb_X3_young_60 C hK h
    · replace h := h.2 z
      refine gx_bipush (v := 40) C dX3_young_47 (by decide) ?_
      refine gx_aload_n C dX3_young_49 rfl 1 rfl ?_
      refine tm_get C hK 1 (by decide) q2301 rfl rfl dX3_young_50 ?_
      refine gx_iconst (v := 3) C dX3_young_53 (by decide) ?_
      obtain ⟨g54, h⟩ := h
      refine tm_ald0 C hK g54 dX3_young_54 ?_
      refine gx_isub C dX3_young_55 ?_
      refine gx_goto (tgt := 60) C dX3_young_56 (by decide) ?_
      refine gx_sub [] rfl ?_
      exact tb_X3_young_60 C hK h
  · replace h := h.2 z
    refine gx_iconst (v := 0) C dX3_young_8 (by decide) ?_
    exact tm_iret C hK h dX3_young_9
/-! breeds(I)V -/
abbrev rmX3_breeds : Room := { frames := 8, cells := 0, slots := 0, locals := 181 }
theorem dmX3_breeds : yX3_breeds.cls ≠ "java/lang/invoke/MethodHandle" ∧ yX3_breeds.cls ≠ "java/lang/invoke/VarHandle" ∧ (parseMethodDescriptor yX3_breeds.desc).map (fun d => d.parameters.length) = some 1 := by decide +kernel
def tj_X3_breeds_50 (M : MS) (a2 : Int32) (a3 : Int32) (a4 : Int32) (a5 : Int32) (k50 : MS → Int32 → Int32 → Int32 → Int32 → Prop) (Q : MS → Prop) : Prop :=
  ((a2 ≤ a5 → Q M) ∧ (¬ (a2 ≤ a5) → (vp_in 4 754 ∧ tw_X3_adds M (if ((ms_r M 0 4) - (ms_r M 0 4) / 2 * 2) = 0 then 0 else 1) 0 a3 a4 (-1) (fun r78 M78 => (vp_in 5 754 ∧ (vp_in 5 754 ∧ ∀ M91 : MS, M91 = ms_a M78 0 5 ((ms_r M78 0 5) + 1) → k50 M91 a2 a3 a4 (a5 + 1)))))))
theorem tb_X3_breeds_50 {l : Launch} {p : Program} {e : Env} {s : State} {m : MethodId} {args : Array Value} {below : List Frame} {meth : Method} {c : Code} {D : va_G} {g : Nat → Nat} {cI cJ : ClassId} (C : gx_C p s m args meth c cX3_breeds 6 none RX3) (hK : va_K D gcl [(cI, .int), (cJ, .long)] s) {M : MS} {a2 : Int32} {a3 : Int32} {a4 : Int32} {a5 : Int32} {k50 : MS → Int32 → Int32 → Int32 → Int32 → Prop} {Q : MS → Prop} (h : tj_X3_breeds_50 M a2 a3 a4 a5 k50 Q) (hk50 : ∀ (M : MS) (a2 : Int32) (a3 : Int32) (a4 : Int32) (a5 : Int32), k50 M a2 a3 a4 a5 → gx_W p l e (headSpec (ws_ yX3_breeds cX3_breeds 6 none) rmX3_breeds).room s m args below meth c 6 (tm_I D g cI cJ s M) 0 0 (MQ below (va_Qv Q (tm_B D g cI cJ s.heap.size) (tm_A g s.heap.size)) args s 0 0 (tm_A g s.heap.size)) 50 [(0, .ref (g 0)), (2, .int a2), (3, .int a3), (4, .int a4), (5, .int a5)] []) : gx_W p l e (headSpec (ws_ yX3_breeds cX3_breeds 6 none) rmX3_breeds).room s m args below meth c 6 (tm_I D g cI cJ s M) 0 0 (MQ below (va_Qv Q (tm_B D g cI cJ s.heap.size) (tm_A g s.heap.size)) args s 0 0 (tm_A g s.heap.size)) 50 [(0, .ref (g 0)), (2, .int a2), (3, .int a3), (4, .int a4), (5, .int a5)] [] := by
  unfold tj_X3_breeds_50 at h
  refine gx_iload C dX3_breeds_50 4 rfl ?_
  refine gx_iload_n C dX3_breeds_52 rfl 1 rfl ?_
  refine gx_icmp_ge (tgt := 98) C dX3_breeds_53 (by decide) (fun z => ?_) (fun z => ?_)
  · replace h := h.1 z
    exact tm_vret C hK h dX3_breeds_98
  · replace h := h.2 z
    refine gx_aload_n C dX3_breeds_56 rfl 0 rfl ?_
    refine gx_aload_n C dX3_breeds_57 rfl 0 rfl ?_
    refine tm_get C hK 1 (by decide) q2301 rfl rfl dX3_breeds_58 ?_
    refine gx_iconst (v := 4) C dX3_breeds_61 (by decide) ?_
    obtain ⟨g62, h⟩ := h
    refine tm_ald0 C hK g62 dX3_breeds_62 ?_
    refine gx_iconst (v := 2) C dX3_breeds_63 (by decide) ?_
    refine gx_irem C dX3_breeds_64 (by decide) ?_
    refine gx_phii (t := (if ((ms_r M 0 4) - (ms_r M 0 4) / 2 * 2) = 0 then 0 else 1)) (pc2 := 73) (lv2 := [(0, .ref (g 0)), (2, .int a2), (3, .int a3), (4, .int a4), (5, .int a5)]) (rest2 := [.ref (g 0)]) (fun key => ?_) ?_
    · refine gx_if_ne (tgt := 72) C dX3_breeds_65 (by decide) (fun z1 => ?_) (fun z1 => ?_)
      · refine gx_iconst (v := 1) C dX3_breeds_72 (by decide) ?_
        exact gx_casti (if_neg z1) key
      · refine gx_iconst (v := 0) C dX3_breeds_68 (by decide) ?_
        refine gx_goto (tgt := 73) C dX3_breeds_69 (by decide) ?_
        exact gx_casti (if_pos z1) key
    refine gx_iconst (v := 0) C dX3_breeds_73 (by decide) ?_
    refine gx_iload_n C dX3_breeds_74 rfl 2 rfl ?_
    refine gx_iload C dX3_breeds_75 3 rfl ?_
    refine gx_iconst (v := (-1)) C dX3_breeds_77 (by decide) ?_
    refine tm_calli (rest := []) C hK (fun sz => tk_X3_adds h) (cwV 5 C.t (lw_V q2458 q2460 qs61 q130 q2461) rfl rfl rfl ⟨rfl, dmX3_adds⟩ ⟨Nat.le_of_ble_eq_true rfl, Nat.le_of_ble_eq_true rfl⟩) rfl rfl (Nat.le_of_ble_eq_true rfl) dX3_breeds_78 (fun r78 M78 h => ?_)
    refine gx_pop C dX3_breeds_81 rfl ?_
    refine gx_aload_n C dX3_breeds_82 rfl 0 rfl ?_
    refine tm_get C hK 1 (by decide) q2301 rfl rfl dX3_breeds_83 ?_
    refine gx_iconst (v := 5) C dX3_breeds_86 (by decide) ?_
    refine gx_dup2_11 C dX3_breeds_87 rfl rfl ?_
    obtain ⟨g88, h⟩ := h
    refine tm_ald0 C hK g88 dX3_breeds_88 ?_
    refine gx_iconst (v := 1) C dX3_breeds_89 (by decide) ?_
    refine gx_iadd C dX3_breeds_90 ?_
    obtain ⟨g91, h⟩ := h
    refine tm_ast0 C hK g91 dX3_breeds_91 (fun M91 e_M91 => ?_)
    replace h := h M91 e_M91
    refine gx_iinc (v := a5 + 1) (k := 4) (lv' := [(5, .int (a5 + 1)), (0, .ref (g 0)), (2, .int a2), (3, .int a3), (4, .int a4)]) C dX3_breeds_92 rfl rfl (by decide) rfl ?_
    refine gx_goto (tgt := 50) C dX3_breeds_95 (by decide) ?_
    refine gx_sub [1, 2, 3, 4, 0] rfl ?_
    exact hk50 M91 a2 a3 a4 (a5 + 1) h
def tl_X3_breeds_50 (Q : MS → Prop) : Nat → MS → Int32 → Int32 → Int32 → Int32 → Prop
  | 0, _, _, _, _, _ => False
  | n + 1, M, a2, a3, a4, a5 => tj_X3_breeds_50 M a2 a3 a4 a5 (fun M a2 a3 a4 a5 => tl_X3_breeds_50 Q n M a2 a3 a4 a5) Q
theorem te_X3_breeds_50 {l : Launch} {p : Program} {e : Env} {s : State} {m : MethodId} {args : Array Value} {below : List Frame} {meth : Method} {c : Code} {D : va_G} {g : Nat → Nat} {cI cJ : ClassId} (C : gx_C p s m args meth c cX3_breeds 6 none RX3) (hK : va_K D gcl [(cI, .int), (cJ, .long)] s) {Q : MS → Prop}  (n : Nat) : ∀ (M : MS) (a2 : Int32) (a3 : Int32) (a4 : Int32) (a5 : Int32), tl_X3_breeds_50 Q n M a2 a3 a4 a5 → gx_W p l e (headSpec (ws_ yX3_breeds cX3_breeds 6 none) rmX3_breeds).room s m args below meth c 6 (tm_I D g cI cJ s M) 0 0 (MQ below (va_Qv Q (tm_B D g cI cJ s.heap.size) (tm_A g s.heap.size)) args s 0 0 (tm_A g s.heap.size)) 50 [(0, .ref (g 0)), (2, .int a2), (3, .int a3), (4, .int a4), (5, .int a5)] [] := by
  induction n with
  | zero => intro M a2 a3 a4 a5 h; exact False.elim h
  | succ n ih => intro M a2 a3 a4 a5 h; exact tb_X3_breeds_50 C hK (show tj_X3_breeds_50 M a2 a3 a4 a5 (fun M a2 a3 a4 a5 => tl_X3_breeds_50 Q n M a2 a3 a4 a5) Q from h) (fun M a2 a3 a4 a5 h => ih M a2 a3 a4 a5 h)
def tj_X3_breeds_45 (M : MS) (a2 : Int32) (a3 : Int32) (s0 : Int32) (Q : MS → Prop) : Prop :=
  ∃ n : Nat, tl_X3_breeds_50 Q n M a2 a3 s0 0
theorem tb_X3_breeds_45 {l : Launch} {p : Program} {e : Env} {s : State} {m : MethodId} {args : Array Value} {below : List Frame} {meth : Method} {c : Code} {D : va_G} {g : Nat → Nat} {cI cJ : ClassId} (C : gx_C p s m args meth c cX3_breeds 6 none RX3) (hK : va_K D gcl [(cI, .int), (cJ, .long)] s) {M : MS} {a2 : Int32} {a3 : Int32} {s0 : Int32} {Q : MS → Prop} (h : tj_X3_breeds_45 M a2 a3 s0 Q)  : gx_W p l e (headSpec (ws_ yX3_breeds cX3_breeds 6 none) rmX3_breeds).room s m args below meth c 6 (tm_I D g cI cJ s M) 0 0 (MQ below (va_Qv Q (tm_B D g cI cJ s.heap.size) (tm_A g s.heap.size)) args s 0 0 (tm_A g s.heap.size)) 45 [(0, .ref (g 0)), (2, .int a2), (3, .int a3)] [.int s0] := by
  unfold tj_X3_breeds_45 at h
  refine gx_istore (lv' := [(4, .int s0), (0, .ref (g 0)), (2, .int a2), (3, .int a3)]) C dX3_breeds_45 (by decide) rfl ?_
  refine gx_iconst (v := 0) C dX3_breeds_47 (by decide) ?_
  refine gx_istore (lv' := [(5, .int 0), (4, .int s0), (0, .ref (g 0)), (2, .int a2), (3, .int a3)]) C dX3_breeds_48 (by decide) rfl ?_
  refine gx_sub [2, 3, 4, 1, 0] rfl ?_
  obtain ⟨n, h⟩ := h
  exact te_X3_breeds_50 C hK n M a2 a3 s0 0 h
def tj_X3_breeds_25 (M : MS) (a1 : Int32) (a2 : Int32) (s0 : Int32) (Q : MS → Prop) : Prop :=
  ((a2 = 0 → tj_X3_breeds_45 M a2 s0 (-1) Q) ∧ (¬ (a2 = 0) → tw_X3_owlIn M a1 1 (fun r38 M38 => tw_X3_of M38 r38 0 (fun r42 M42 => tj_X3_breeds_45 M42 a2 s0 r42 Q))))
theorem tb_X3_breeds_25 {l : Launch} {p : Program} {e : Env} {s : State} {m : MethodId} {args : Array Value} {below : List Frame} {meth : Method} {c : Code} {D : va_G} {g : Nat → Nat} {cI cJ : ClassId} (C : gx_C p s m args meth c cX3_breeds 6 none RX3) (hK : va_K D gcl [(cI, .int), (cJ, .long)] s) {M : MS} {a1 : Int32} {a2 : Int32} {s0 : Int32} {Q : MS → Prop} (h : tj_X3_breeds_25 M a1 a2 s0 Q)  : gx_W p l e (headSpec (ws_ yX3_breeds cX3_breeds 6 none) rmX3_breeds).room s m args below meth c 6 (tm_I D g cI cJ s M) 0 0 (MQ below (va_Qv Q (tm_B D g cI cJ s.heap.size) (tm_A g s.heap.size)) args s 0 0 (tm_A g s.heap.size)) 25 [(0, .ref (g 0)), (1, .int a1), (2, .int a2)] [.int s0] := by
  unfold tj_X3_breeds_25 at h
  refine gx_istore_n (lv' := [(3, .int s0), (0, .ref (g 0)), (1, .int a1), (2, .int a2)]) C dX3_breeds_25 rfl (by decide) rfl ?_
  refine gx_iload_n C dX3_breeds_26 rfl 3 rfl ?_
  refine gx_if_ne (tgt := 34) C dX3_breeds_27 (by decide) (fun z => ?_) (fun z => ?_)
  · replace h := h.2 z
    refine gx_aload_n C dX3_breeds_34 rfl 1 rfl ?_
    refine gx_aload_n C dX3_breeds_35 rfl 1 rfl ?_
    refine gx_iload_n C dX3_breeds_36 rfl 2 rfl ?_
    refine gx_iconst (v := 1) C dX3_breeds_37 (by decide) ?_
    refine tm_calli (rest := [.ref (g 0)]) C hK (fun sz => tk_X3_owlIn h) (cwV 2 C.t (lw_V q2431 q2433 qs56 q130 q2434) rfl rfl rfl ⟨rfl, dmX3_owlIn⟩ ⟨Nat.le_of_ble_eq_true rfl, Nat.le_of_ble_eq_true rfl⟩) rfl rfl (Nat.le_of_ble_eq_true rfl) dX3_breeds_38 (fun r38 M38 h => ?_)
    refine gx_iconst (v := 0) C dX3_breeds_41 (by decide) ?_
    refine tm_calli (rest := []) C hK (fun sz => tk_X3_of h) (cwV 2 C.t (lw_V q2435 q2437 qs57 q130 q2438) rfl rfl rfl ⟨rfl, dmX3_of⟩ ⟨Nat.le_of_ble_eq_true rfl, Nat.le_of_ble_eq_true rfl⟩) rfl rfl (Nat.le_of_ble_eq_true rfl) dX3_breeds_42 (fun r42 M42 h => ?_)
    refine gx_sub [1, 3, 0] rfl ?_
    exact tb_X3_breeds_45 C hK h
  · replace h := h.1 z
    refine gx_iconst (v := (-1)) C dX3_breeds_30 (by decide) ?_
    refine gx_goto (tgt := 45) C dX3_breeds_31 (by decide) ?_
    refine gx_sub [1, 3, 0] rfl ?_
    exact tb_X3_breeds_45 C hK h
def tw_X3_breeds (M : MS) (a1 : Int32) (Q : MS → Prop) : Prop :=
  tw_X3_young M a1 (fun r2 M2 => ((r2 = 0 → tj_X3_breeds_25 M2 a1 r2 (-1) Q) ∧ (¬ (r2 = 0) → tw_X3_owlIn M2 a1 0 (fun r18 M18 => tw_X3_of M18 r18 0 (fun r22 M22 => tj_X3_breeds_25 M22 a1 r2 r22 Q)))))
theorem tk_X3_breeds {l : Launch} {D : va_G} {g : Nat → Nat} {cI cJ : ClassId} {sz : Nat} {M : MS} {a1 : Int32} {Q : MS → Prop} (h : tw_X3_breeds M a1 Q) : tm_Met l yX3_breeds cX3_breeds 6 none rmX3_breeds [.int a1] D g cI cJ sz M (va_Qv Q (tm_B D g cI cJ sz) (tm_A g sz)) := by
  refine tm_entry (by decide) (Nat.le_of_ble_eq_true rfl) (fun p e s m args below meth c hsz C hK => ?_)
  subst hsz
  unfold tw_X3_breeds at h
  show gx_W p l e (headSpec (ws_ yX3_breeds cX3_breeds 6 none) rmX3_breeds).room s m args below meth c 6 (tm_I D g cI cJ s M) 0 0 (MQ below (va_Qv Q (tm_B D g cI cJ s.heap.size) (tm_A g s.heap.size)) args s 0 0 (tm_A g s.heap.size)) 0 [(0, .ref (g 0)), (1, .int a1)] []
  refine gx_aload_n C dX3_breeds_0 rfl 0 rfl ?_
  refine gx_iload_n C dX3_breeds_1 rfl 1 rfl ?_
  refine tm_calli (rest := []) C hK (fun sz => tk_X3_young h) (cwV 1 C.t (lw_V q2554 q2556 qs79 q130 q2557) rfl rfl rfl ⟨rfl, dmX3_young⟩ ⟨Nat.le_of_ble_eq_true rfl, Nat.le_of_ble_eq_true rfl⟩) rfl rfl (Nat.le_of_ble_eq_true rfl) dX3_breeds_2 (fun r2 M2 h => ?_)
  refine gx_istore_n (lv' := [(2, .int r2), (0, .ref (g 0)), (1, .int a1)]) C dX3_breeds_5 rfl (by decide) rfl ?_
  refine gx_iload_n C dX3_breeds_6 rfl 0 rfl ?_
  refine gx_if_ne (tgt := 14) C dX3_breeds_7 (by decide) (fun z => ?_) (fun z => ?_)
  · replace h := h.2 z
    refine gx_aload_n C dX3_breeds_14 rfl 1 rfl ?_
    refine gx_aload_n C dX3_breeds_15 rfl 1 rfl ?_
    refine gx_iload_n C dX3_breeds_16 rfl 2 rfl ?_
    refine gx_iconst (v := 0) C dX3_breeds_17 (by decide) ?_
    refine tm_calli (rest := [.ref (g 0)]) C hK (fun sz => tk_X3_owlIn h) (cwV 2 C.t (lw_V q2431 q2433 qs56 q130 q2434) rfl rfl rfl ⟨rfl, dmX3_owlIn⟩ ⟨Nat.le_of_ble_eq_true rfl, Nat.le_of_ble_eq_true rfl⟩) rfl rfl (Nat.le_of_ble_eq_true rfl) dX3_breeds_18 (fun r18 M18 h => ?_)
    refine gx_iconst (v := 0) C dX3_breeds_21 (by decide) ?_
    refine tm_calli (rest := []) C hK (fun sz => tk_X3_of h) (cwV 2 C.t (lw_V q2435 q2437 qs57 q130 q2438) rfl rfl rfl ⟨rfl, dmX3_of⟩ ⟨Nat.le_of_ble_eq_true rfl, Nat.le_of_ble_eq_true rfl⟩) rfl rfl (Nat.le_of_ble_eq_true rfl) dX3_breeds_22 (fun r22 M22 h => ?_)
    refine gx_sub [1, 2, 0] rfl ?_
    exact tb_X3_breeds_25 C hK h
  · replace h := h.1 z
    refine gx_iconst (v := (-1)) C dX3_breeds_10 (by decide) ?_
    refine gx_goto (tgt := 25) C dX3_breeds_11 (by decide) ?_
    refine gx_sub [1, 2, 0] rfl ?_
    exact tb_X3_breeds_25 C hK h
/-! settles(I)V -/
abbrev rmX3_settles : Room := { frames := 6, cells := 0, slots := 0, locals := 136 }
theorem dmX3_settles : yX3_settles.cls ≠ "java/lang/invoke/MethodHandle" ∧ yX3_settles.cls ≠ "java/lang/invoke/VarHandle" ∧ (parseMethodDescriptor yX3_settles.desc).map (fun d => d.parameters.length) = some 1 := by decide +kernel
def tj_X3_settles_45 (M : MS) (a1 : Int32) (a2 : Int32) (a3 : Int32) (a4 : Int32) (s0 : Int32) (k8 : MS → Int32 → Int32 → Int32 → Int32 → Prop) (Q : MS → Prop) : Prop :=
  k8 M a1 ((if s0 ≤ a3 then a2 else a4)) ((if s0 ≤ a3 then a3 else s0)) (a4 + 1)
theorem tb_X3_settles_45 {l : Launch} {p : Program} {e : Env} {s : State} {m : MethodId} {args : Array Value} {below : List Frame} {meth : Method} {c : Code} {D : va_G} {g : Nat → Nat} {cI cJ : ClassId} (C : gx_C p s m args meth c cX3_settles 6 none RX3) (hK : va_K D gcl [(cI, .int), (cJ, .long)] s) {M : MS} {a1 : Int32} {a2 : Int32} {a3 : Int32} {a4 : Int32} {s0 : Int32} {k8 : MS → Int32 → Int32 → Int32 → Int32 → Prop} {Q : MS → Prop} (h : tj_X3_settles_45 M a1 a2 a3 a4 s0 k8 Q) (hk8 : ∀ (M : MS) (a1 : Int32) (a2 : Int32) (a3 : Int32) (a4 : Int32), k8 M a1 a2 a3 a4 → gx_W p l e (headSpec (ws_ yX3_settles cX3_settles 6 none) rmX3_settles).room s m args below meth c 6 (tm_I D g cI cJ s M) 0 0 (MQ below (va_Qv Q (tm_B D g cI cJ s.heap.size) (tm_A g s.heap.size)) args s 0 0 (tm_A g s.heap.size)) 8 [(0, .ref (g 0)), (1, .int a1), (2, .int a2), (3, .int a3), (4, .int a4)] []) : gx_W p l e (headSpec (ws_ yX3_settles cX3_settles 6 none) rmX3_settles).room s m args below meth c 6 (tm_I D g cI cJ s M) 0 0 (MQ below (va_Qv Q (tm_B D g cI cJ s.heap.size) (tm_A g s.heap.size)) args s 0 0 (tm_A g s.heap.size)) 45 [(0, .ref (g 0)), (1, .int a1), (2, .int a2), (3, .int a3), (4, .int a4)] [.int s0] := by
  unfold tj_X3_settles_45 at h
  refine gx_istore (lv' := [(5, .int s0), (0, .ref (g 0)), (1, .int a1), (2, .int a2), (3, .int a3), (4, .int a4)]) C dX3_settles_45 (by decide) rfl ?_
  refine gx_iload C dX3_settles_47 0 rfl ?_
  refine gx_iload_n C dX3_settles_49 rfl 4 rfl ?_
  refine gx_phii (t := (if s0 ≤ a3 then a2 else a4)) (pc2 := 59) (lv2 := [(5, .int s0), (0, .ref (g 0)), (1, .int a1), (2, .int a2), (3, .int a3), (4, .int a4)]) (rest2 := []) (fun key => ?_) ?_
  · refine gx_icmp_le (tgt := 58) C dX3_settles_50 (by decide) (fun z1 => ?_) (fun z1 => ?_)
    · refine gx_iload_n C dX3_settles_58 rfl 3 rfl ?_
      exact gx_casti (if_pos z1) key
    · refine gx_iload C dX3_settles_53 5 rfl ?_
      refine gx_goto (tgt := 59) C dX3_settles_55 (by decide) ?_
      exact gx_casti (if_neg z1) key
  refine gx_istore_n (lv' := [(2, .int ((if s0 ≤ a3 then a2 else a4))), (5, .int s0), (0, .ref (g 0)), (1, .int a1), (3, .int a3), (4, .int a4)]) C dX3_settles_59 rfl (by decide) rfl ?_
  refine gx_iload C dX3_settles_60 1 rfl ?_
  refine gx_iload_n C dX3_settles_62 rfl 4 rfl ?_
  refine gx_phii (t := (if s0 ≤ a3 then a3 else s0)) (pc2 := 72) (lv2 := [(2, .int ((if s0 ≤ a3 then a2 else a4))), (5, .int s0), (0, .ref (g 0)), (1, .int a1), (3, .int a3), (4, .int a4)]) (rest2 := []) (fun key => ?_) ?_
  · refine gx_icmp_le (tgt := 71) C dX3_settles_63 (by decide) (fun z1 => ?_) (fun z1 => ?_)
    · refine gx_iload_n C dX3_settles_71 rfl 4 rfl ?_
      exact gx_casti (if_pos z1) key
    · refine gx_iload C dX3_settles_66 1 rfl ?_
      refine gx_goto (tgt := 72) C dX3_settles_68 (by decide) ?_
      exact gx_casti (if_neg z1) key
  refine gx_istore_n (lv' := [(3, .int ((if s0 ≤ a3 then a3 else s0))), (2, .int ((if s0 ≤ a3 then a2 else a4))), (5, .int s0), (0, .ref (g 0)), (1, .int a1), (4, .int a4)]) C dX3_settles_72 rfl (by decide) rfl ?_
  refine gx_iinc (v := a4 + 1) (k := 5) (lv' := [(4, .int (a4 + 1)), (3, .int ((if s0 ≤ a3 then a3 else s0))), (2, .int ((if s0 ≤ a3 then a2 else a4))), (5, .int s0), (0, .ref (g 0)), (1, .int a1)]) C dX3_settles_73 rfl rfl (by decide) rfl ?_
  refine gx_goto (tgt := 8) C dX3_settles_76 (by decide) ?_
  refine gx_sub [4, 5, 2, 1, 0] rfl ?_
  exact hk8 M a1 ((if s0 ≤ a3 then a2 else a4)) ((if s0 ≤ a3 then a3 else s0)) (a4 + 1) h
def tj_X3_settles_8 (M : MS) (a1 : Int32) (a2 : Int32) (a3 : Int32) (a4 : Int32) (k8 : MS → Int32 → Int32 → Int32 → Int32 → Prop) (Q : MS → Prop) : Prop :=
  (vp_in 2 754 ∧ (((ms_r M 0 2) ≤ a4 → tw_X3_puts M a1 5 a2 (fun M83 => Q M83)) ∧ (¬ (ms_r M 0 2) ≤ a4 → tw_X3_of M a1 1 (fun r25 M25 => tw_X3_owlIn M25 a4 r25 (fun r28 M28 => ((r28 = (-1) → tw_X3_share M28 a4 (fun r38 M38 => tj_X3_settles_45 M38 a1 a2 a3 a4 r38 k8 Q)) ∧ (¬ (r28 = (-1)) → tj_X3_settles_45 M28 a1 a2 a3 a4 0 k8 Q)))))))
theorem tb_X3_settles_8 {l : Launch} {p : Program} {e : Env} {s : State} {m : MethodId} {args : Array Value} {below : List Frame} {meth : Method} {c : Code} {D : va_G} {g : Nat → Nat} {cI cJ : ClassId} (C : gx_C p s m args meth c cX3_settles 6 none RX3) (hK : va_K D gcl [(cI, .int), (cJ, .long)] s) {M : MS} {a1 : Int32} {a2 : Int32} {a3 : Int32} {a4 : Int32} {k8 : MS → Int32 → Int32 → Int32 → Int32 → Prop} {Q : MS → Prop} (h : tj_X3_settles_8 M a1 a2 a3 a4 k8 Q) (hk8 : ∀ (M : MS) (a1 : Int32) (a2 : Int32) (a3 : Int32) (a4 : Int32), k8 M a1 a2 a3 a4 → gx_W p l e (headSpec (ws_ yX3_settles cX3_settles 6 none) rmX3_settles).room s m args below meth c 6 (tm_I D g cI cJ s M) 0 0 (MQ below (va_Qv Q (tm_B D g cI cJ s.heap.size) (tm_A g s.heap.size)) args s 0 0 (tm_A g s.heap.size)) 8 [(0, .ref (g 0)), (1, .int a1), (2, .int a2), (3, .int a3), (4, .int a4)] []) : gx_W p l e (headSpec (ws_ yX3_settles cX3_settles 6 none) rmX3_settles).room s m args below meth c 6 (tm_I D g cI cJ s M) 0 0 (MQ below (va_Qv Q (tm_B D g cI cJ s.heap.size) (tm_A g s.heap.size)) args s 0 0 (tm_A g s.heap.size)) 8 [(0, .ref (g 0)), (1, .int a1), (2, .int a2), (3, .int a3), (4, .int a4)] [] := by
  unfold tj_X3_settles_8 at h
  refine gx_iload C dX3_settles_8 4 rfl ?_
  refine gx_aload_n C dX3_settles_10 rfl 0 rfl ?_
  refine tm_get C hK 1 (by decide) q2301 rfl rfl dX3_settles_11 ?_
  refine gx_iconst (v := 2) C dX3_settles_14 (by decide) ?_
  obtain ⟨g15, h⟩ := h
  refine tm_ald0 C hK g15 dX3_settles_15 ?_
  refine gx_icmp_ge (tgt := 79) C dX3_settles_16 (by decide) (fun z => ?_) (fun z => ?_)
  · replace h := h.1 z
    refine gx_aload_n C dX3_settles_79 rfl 0 rfl ?_
    refine gx_iload_n C dX3_settles_80 rfl 1 rfl ?_
    refine gx_iconst (v := 5) C dX3_settles_81 (by decide) ?_
    refine gx_iload_n C dX3_settles_82 rfl 2 rfl ?_
    refine tm_callv (rest := []) C hK (fun sz => tk_X3_puts h) (cwV 3 C.t (lw_V q2439 q2441 qs58 q130 q2442) rfl rfl rfl ⟨rfl, dmX3_puts⟩ ⟨Nat.le_of_ble_eq_true rfl, Nat.le_of_ble_eq_true rfl⟩) rfl rfl (Nat.le_of_ble_eq_true rfl) dX3_settles_83 (fun M83 h => ?_)
    exact tm_vret C hK h dX3_settles_86
  · replace h := h.2 z
    refine gx_aload_n C dX3_settles_19 rfl 0 rfl ?_
    refine gx_iload C dX3_settles_20 4 rfl ?_
    refine gx_aload_n C dX3_settles_22 rfl 0 rfl ?_
    refine gx_iload_n C dX3_settles_23 rfl 1 rfl ?_
    refine gx_iconst (v := 1) C dX3_settles_24 (by decide) ?_
    refine tm_calli (rest := [.int a4, .ref (g 0)]) C hK (fun sz => tk_X3_of h) (cwV 2 C.t (lw_V q2435 q2437 qs57 q130 q2438) rfl rfl rfl ⟨rfl, dmX3_of⟩ ⟨Nat.le_of_ble_eq_true rfl, Nat.le_of_ble_eq_true rfl⟩) rfl rfl (Nat.le_of_ble_eq_true rfl) dX3_settles_25 (fun r25 M25 h => ?_)
    refine tm_calli (rest := []) C hK (fun sz => tk_X3_owlIn h) (cwV 2 C.t (lw_V q2431 q2433 qs56 q130 q2434) rfl rfl rfl ⟨rfl, dmX3_owlIn⟩ ⟨Nat.le_of_ble_eq_true rfl, Nat.le_of_ble_eq_true rfl⟩) rfl rfl (Nat.le_of_ble_eq_true rfl) dX3_settles_28 (fun r28 M28 h => ?_)
    refine gx_iconst (v := (-1)) C dX3_settles_31 (by decide) ?_
    refine gx_icmp_ne (tgt := 44) C dX3_settles_32 (by decide) (fun z => ?_) (fun z => ?_)
    · replace h := h.2 z
      refine gx_iconst (v := 0) C dX3_settles_44 (by decide) ?_
      exact tb_X3_settles_45 C hK h hk8
    · replace h := h.1 z
      refine gx_aload_n C dX3_settles_35 rfl 0 rfl ?_
      refine gx_iload C dX3_settles_36 4 rfl ?_
      refine tm_calli (rest := []) C hK (fun sz => tk_X3_share h) (cwV 1 C.t (lw_V q2517 q2519 qs70 q130 q2520) rfl rfl rfl ⟨rfl, dmX3_share⟩ ⟨Nat.le_of_ble_eq_true rfl, Nat.le_of_ble_eq_true rfl⟩) rfl rfl (Nat.le_of_ble_eq_true rfl) dX3_settles_38 (fun r38 M38 h => ?_)
      refine gx_goto (tgt := 45) C dX3_settles_41 (by decide) ?_
      exact tb_X3_settles_45 C hK h hk8
def tl_X3_settles_8 (Q : MS → Prop) : Nat → MS → Int32 → Int32 → Int32 → Int32 → Prop
  | 0, _, _, _, _, _ => False
  | n + 1, M, a1, a2, a3, a4 => tj_X3_settles_8 M a1 a2 a3 a4 (fun M a1 a2 a3 a4 => tl_X3_settles_8 Q n M a1 a2 a3 a4) Q
theorem te_X3_settles_8 {l : Launch} {p : Program} {e : Env} {s : State} {m : MethodId} {args : Array Value} {below : List Frame} {meth : Method} {c : Code} {D : va_G} {g : Nat → Nat} {cI cJ : ClassId} (C : gx_C p s m args meth c cX3_settles 6 none RX3) (hK : va_K D gcl [(cI, .int), (cJ, .long)] s) {Q : MS → Prop}  (n : Nat) : ∀ (M : MS) (a1 : Int32) (a2 : Int32) (a3 : Int32) (a4 : Int32), tl_X3_settles_8 Q n M a1 a2 a3 a4 → gx_W p l e (headSpec (ws_ yX3_settles cX3_settles 6 none) rmX3_settles).room s m args below meth c 6 (tm_I D g cI cJ s M) 0 0 (MQ below (va_Qv Q (tm_B D g cI cJ s.heap.size) (tm_A g s.heap.size)) args s 0 0 (tm_A g s.heap.size)) 8 [(0, .ref (g 0)), (1, .int a1), (2, .int a2), (3, .int a3), (4, .int a4)] [] := by
  induction n with
  | zero => intro M a1 a2 a3 a4 h; exact False.elim h
  | succ n ih => intro M a1 a2 a3 a4 h; exact tb_X3_settles_8 C hK (show tj_X3_settles_8 M a1 a2 a3 a4 (fun M a1 a2 a3 a4 => tl_X3_settles_8 Q n M a1 a2 a3 a4) Q from h) (fun M a1 a2 a3 a4 h => ih M a1 a2 a3 a4 h)
def tw_X3_settles (M : MS) (a1 : Int32) (Q : MS → Prop) : Prop :=
  ∃ n : Nat, tl_X3_settles_8 Q n M a1 (-1) 59 0
theorem tk_X3_settles {l : Launch} {D : va_G} {g : Nat → Nat} {cI cJ : ClassId} {sz : Nat} {M : MS} {a1 : Int32} {Q : MS → Prop} (h : tw_X3_settles M a1 Q) : tm_Met l yX3_settles cX3_settles 6 none rmX3_settles [.int a1] D g cI cJ sz M (va_Qv Q (tm_B D g cI cJ sz) (tm_A g sz)) := by
  refine tm_entry (by decide) (Nat.le_of_ble_eq_true rfl) (fun p e s m args below meth c hsz C hK => ?_)
  subst hsz
  unfold tw_X3_settles at h
  show gx_W p l e (headSpec (ws_ yX3_settles cX3_settles 6 none) rmX3_settles).room s m args below meth c 6 (tm_I D g cI cJ s M) 0 0 (MQ below (va_Qv Q (tm_B D g cI cJ s.heap.size) (tm_A g s.heap.size)) args s 0 0 (tm_A g s.heap.size)) 0 [(0, .ref (g 0)), (1, .int a1)] []
  refine gx_iconst (v := (-1)) C dX3_settles_0 (by decide) ?_
  refine gx_istore_n (lv' := [(2, .int ((-1))), (0, .ref (g 0)), (1, .int a1)]) C dX3_settles_1 rfl (by decide) rfl ?_
  refine gx_bipush (v := 59) C dX3_settles_2 (by decide) ?_
  refine gx_istore_n (lv' := [(3, .int 59), (2, .int ((-1))), (0, .ref (g 0)), (1, .int a1)]) C dX3_settles_4 rfl (by decide) rfl ?_
  refine gx_iconst (v := 0) C dX3_settles_5 (by decide) ?_
  refine gx_istore (lv' := [(4, .int 0), (3, .int 59), (2, .int ((-1))), (0, .ref (g 0)), (1, .int a1)]) C dX3_settles_6 (by decide) rfl ?_
  refine gx_sub [3, 4, 2, 1, 0] rfl ?_
  obtain ⟨n, h⟩ := h
  exact te_X3_settles_8 C hK n M a1 (-1) 59 0 h
/-! passesYear()V -/
abbrev rmX3_passesYear : Room := { frames := 9, cells := 0, slots := 0, locals := 206 }
theorem dmX3_passesYear : yX3_passesYear.cls ≠ "java/lang/invoke/MethodHandle" ∧ yX3_passesYear.cls ≠ "java/lang/invoke/VarHandle" ∧ (parseMethodDescriptor yX3_passesYear.desc).map (fun d => d.parameters.length) = some 0 := by decide +kernel
def tj_X3_passesYear_177 (M : MS) (s1 : Int32) (s2 : Int32) (Q : MS → Prop) : Prop :=
  (vp_in s1 754 ∧ ∀ M177 : MS, M177 = ms_a M 0 s1 s2 → Q M177)
theorem tb_X3_passesYear_177 {l : Launch} {p : Program} {e : Env} {s : State} {m : MethodId} {args : Array Value} {below : List Frame} {meth : Method} {c : Code} {D : va_G} {g : Nat → Nat} {cI cJ : ClassId} (C : gx_C p s m args meth c cX3_passesYear 2 none RX3) (hK : va_K D gcl [(cI, .int), (cJ, .long)] s) {M : MS} {s1 : Int32} {s2 : Int32} {Q : MS → Prop} (h : tj_X3_passesYear_177 M s1 s2 Q)  : gx_W p l e (headSpec (ws_ yX3_passesYear cX3_passesYear 2 none) rmX3_passesYear).room s m args below meth c 2 (tm_I D g cI cJ s M) 0 0 (MQ below (va_Qv Q (tm_B D g cI cJ s.heap.size) (tm_A g s.heap.size)) args s 0 0 (tm_A g s.heap.size)) 177 [] [.int s2, .int s1, .ref (g 1)] := by
  unfold tj_X3_passesYear_177 at h
  obtain ⟨g177, h⟩ := h
  refine tm_ast0 C hK g177 dX3_passesYear_177 (fun M177 e_M177 => ?_)
  replace h := h M177 e_M177
  exact tm_vret C hK h dX3_passesYear_178
def tj_X3_passesYear_123 (M : MS) (a1 : Int32) (k88 : MS → Int32 → Prop) (Q : MS → Prop) : Prop :=
  k88 M (a1 + 1)
theorem tb_X3_passesYear_123 {l : Launch} {p : Program} {e : Env} {s : State} {m : MethodId} {args : Array Value} {below : List Frame} {meth : Method} {c : Code} {D : va_G} {g : Nat → Nat} {cI cJ : ClassId} (C : gx_C p s m args meth c cX3_passesYear 2 none RX3) (hK : va_K D gcl [(cI, .int), (cJ, .long)] s) {M : MS} {a1 : Int32} {k88 : MS → Int32 → Prop} {Q : MS → Prop} (h : tj_X3_passesYear_123 M a1 k88 Q) (hk88 : ∀ (M : MS) (a1 : Int32), k88 M a1 → gx_W p l e (headSpec (ws_ yX3_passesYear cX3_passesYear 2 none) rmX3_passesYear).room s m args below meth c 2 (tm_I D g cI cJ s M) 0 0 (MQ below (va_Qv Q (tm_B D g cI cJ s.heap.size) (tm_A g s.heap.size)) args s 0 0 (tm_A g s.heap.size)) 88 [(0, .ref (g 0)), (1, .int a1)] []) : gx_W p l e (headSpec (ws_ yX3_passesYear cX3_passesYear 2 none) rmX3_passesYear).room s m args below meth c 2 (tm_I D g cI cJ s M) 0 0 (MQ below (va_Qv Q (tm_B D g cI cJ s.heap.size) (tm_A g s.heap.size)) args s 0 0 (tm_A g s.heap.size)) 123 [(0, .ref (g 0)), (1, .int a1)] [] := by
  unfold tj_X3_passesYear_123 at h
  refine gx_iinc (v := a1 + 1) (k := 1) (lv' := [(1, .int (a1 + 1)), (0, .ref (g 0))]) C dX3_passesYear_123 rfl rfl (by decide) rfl ?_
  refine gx_goto (tgt := 88) C dX3_passesYear_126 (by decide) ?_
  refine gx_sub [1, 0] rfl ?_
  exact hk88 M (a1 + 1) h
def tj_X3_passesYear_88 (M : MS) (a1 : Int32) (k88 : MS → Int32 → Prop) (Q : MS → Prop) : Prop :=
  (vp_in 3 754 ∧ (((ms_r M 0 3) ≤ a1 → (vp_in 0 754 ∧ (vp_in 0 754 ∧ ∀ M138 : MS, M138 = ms_a M 0 0 ((ms_r M 0 0) + 1) → (vp_in 3 754 ∧ (vp_in 8 754 ∧ (((ms_r M138 0 3) ≤ (ms_r M138 0 8) → (vp_in 8 754 ∧ tj_X3_passesYear_177 M138 8 (ms_r M138 0 8) Q)) ∧ (¬ (ms_r M138 0 3) ≤ (ms_r M138 0 8) → (vp_in 3 754 ∧ tj_X3_passesYear_177 M138 8 (ms_r M138 0 3) Q)))))))) ∧ (¬ (ms_r M 0 3) ≤ a1 → tw_X3_of M a1 5 (fun r101 M101 => ((r101 = (-1) → tw_X3_of M101 a1 2 (fun r111 M111 => ((r111 < 1 → tj_X3_passesYear_123 M111 a1 k88 Q) ∧ (¬ (r111 < 1) → tw_X3_settles M111 a1 (fun M120 => tj_X3_passesYear_123 M120 a1 k88 Q))))) ∧ (¬ (r101 = (-1)) → tj_X3_passesYear_123 M101 a1 k88 Q))))))
theorem tb_X3_passesYear_88 {l : Launch} {p : Program} {e : Env} {s : State} {m : MethodId} {args : Array Value} {below : List Frame} {meth : Method} {c : Code} {D : va_G} {g : Nat → Nat} {cI cJ : ClassId} (C : gx_C p s m args meth c cX3_passesYear 2 none RX3) (hK : va_K D gcl [(cI, .int), (cJ, .long)] s) {M : MS} {a1 : Int32} {k88 : MS → Int32 → Prop} {Q : MS → Prop} (h : tj_X3_passesYear_88 M a1 k88 Q) (hk88 : ∀ (M : MS) (a1 : Int32), k88 M a1 → gx_W p l e (headSpec (ws_ yX3_passesYear cX3_passesYear 2 none) rmX3_passesYear).room s m args below meth c 2 (tm_I D g cI cJ s M) 0 0 (MQ below (va_Qv Q (tm_B D g cI cJ s.heap.size) (tm_A g s.heap.size)) args s 0 0 (tm_A g s.heap.size)) 88 [(0, .ref (g 0)), (1, .int a1)] []) : gx_W p l e (headSpec (ws_ yX3_passesYear cX3_passesYear 2 none) rmX3_passesYear).room s m args below meth c 2 (tm_I D g cI cJ s M) 0 0 (MQ below (va_Qv Q (tm_B D g cI cJ s.heap.size) (tm_A g s.heap.size)) args s 0 0 (tm_A g s.heap.size)) 88 [(0, .ref (g 0)), (1, .int a1)] [] := by
  unfold tj_X3_passesYear_88 at h
  refine gx_iload_n C dX3_passesYear_88 rfl 1 rfl ?_
  refine gx_aload_n C dX3_passesYear_89 rfl 0 rfl ?_
  refine tm_get C hK 1 (by decide) q2301 rfl rfl dX3_passesYear_90 ?_
  refine gx_iconst (v := 3) C dX3_passesYear_93 (by decide) ?_
  obtain ⟨g94, h⟩ := h
  refine tm_ald0 C hK g94 dX3_passesYear_94 ?_
  refine gx_icmp_ge (tgt := 129) C dX3_passesYear_95 (by decide) (fun z => ?_) (fun z => ?_)
  · replace h := h.1 z
    refine gx_aload_n C dX3_passesYear_129 rfl 0 rfl ?_
    refine tm_get C hK 1 (by decide) q2301 rfl rfl dX3_passesYear_130 ?_
    refine gx_iconst (v := 0) C dX3_passesYear_133 (by decide) ?_
    refine gx_dup2_11 C dX3_passesYear_134 rfl rfl ?_
    obtain ⟨g135, h⟩ := h
    refine tm_ald0 C hK g135 dX3_passesYear_135 ?_
    refine gx_iconst (v := 1) C dX3_passesYear_136 (by decide) ?_
    refine gx_iadd C dX3_passesYear_137 ?_
    obtain ⟨g138, h⟩ := h
    refine tm_ast0 C hK g138 dX3_passesYear_138 (fun M138 e_M138 => ?_)
    replace h := h M138 e_M138
    refine gx_aload_n C dX3_passesYear_139 rfl 0 rfl ?_
    refine tm_get C hK 1 (by decide) q2301 rfl rfl dX3_passesYear_140 ?_
    refine gx_bipush (v := 8) C dX3_passesYear_143 (by decide) ?_
    refine gx_aload_n C dX3_passesYear_145 rfl 0 rfl ?_
    refine tm_get C hK 1 (by decide) q2301 rfl rfl dX3_passesYear_146 ?_
    refine gx_iconst (v := 3) C dX3_passesYear_149 (by decide) ?_
    obtain ⟨g150, h⟩ := h
    refine tm_ald0 C hK g150 dX3_passesYear_150 ?_
    refine gx_aload_n C dX3_passesYear_151 rfl 0 rfl ?_
    refine tm_get C hK 1 (by decide) q2301 rfl rfl dX3_passesYear_152 ?_
    refine gx_bipush (v := 8) C dX3_passesYear_155 (by decide) ?_
    obtain ⟨g157, h⟩ := h
    refine tm_ald0 C hK g157 dX3_passesYear_157 ?_
    refine gx_icmp_le (tgt := 170) C dX3_passesYear_158 (by decide) (fun z => ?_) (fun z => ?_)
    · replace h := h.1 z
      refine gx_aload_n C dX3_passesYear_170 rfl 0 rfl ?_
      refine tm_get C hK 1 (by decide) q2301 rfl rfl dX3_passesYear_171 ?_
      refine gx_bipush (v := 8) C dX3_passesYear_174 (by decide) ?_
      obtain ⟨g176, h⟩ := h
      refine tm_ald0 C hK g176 dX3_passesYear_176 ?_
      refine gx_sub [] rfl ?_
      exact tb_X3_passesYear_177 C hK h
    · replace h := h.2 z
      refine gx_aload_n C dX3_passesYear_161 rfl 0 rfl ?_
      refine tm_get C hK 1 (by decide) q2301 rfl rfl dX3_passesYear_162 ?_
      refine gx_iconst (v := 3) C dX3_passesYear_165 (by decide) ?_
      obtain ⟨g166, h⟩ := h
      refine tm_ald0 C hK g166 dX3_passesYear_166 ?_
      refine gx_goto (tgt := 177) C dX3_passesYear_167 (by decide) ?_
      refine gx_sub [] rfl ?_
      exact tb_X3_passesYear_177 C hK h
  · replace h := h.2 z
    refine gx_aload_n C dX3_passesYear_98 rfl 0 rfl ?_
    refine gx_iload_n C dX3_passesYear_99 rfl 1 rfl ?_
    refine gx_iconst (v := 5) C dX3_passesYear_100 (by decide) ?_
    refine tm_calli (rest := []) C hK (fun sz => tk_X3_of h) (cwV 2 C.t (lw_V q2435 q2437 qs57 q130 q2438) rfl rfl rfl ⟨rfl, dmX3_of⟩ ⟨Nat.le_of_ble_eq_true rfl, Nat.le_of_ble_eq_true rfl⟩) rfl rfl (Nat.le_of_ble_eq_true rfl) dX3_passesYear_101 (fun r101 M101 h => ?_)
    refine gx_iconst (v := (-1)) C dX3_passesYear_104 (by decide) ?_
    refine gx_icmp_ne (tgt := 123) C dX3_passesYear_105 (by decide) (fun z => ?_) (fun z => ?_)
    · replace h := h.2 z
      exact tb_X3_passesYear_123 C hK h hk88
    · replace h := h.1 z
      refine gx_aload_n C dX3_passesYear_108 rfl 0 rfl ?_
      refine gx_iload_n C dX3_passesYear_109 rfl 1 rfl ?_
      refine gx_iconst (v := 2) C dX3_passesYear_110 (by decide) ?_
      refine tm_calli (rest := []) C hK (fun sz => tk_X3_of h) (cwV 2 C.t (lw_V q2435 q2437 qs57 q130 q2438) rfl rfl rfl ⟨rfl, dmX3_of⟩ ⟨Nat.le_of_ble_eq_true rfl, Nat.le_of_ble_eq_true rfl⟩) rfl rfl (Nat.le_of_ble_eq_true rfl) dX3_passesYear_111 (fun r111 M111 h => ?_)
      refine gx_iconst (v := 1) C dX3_passesYear_114 (by decide) ?_
      refine gx_icmp_lt (tgt := 123) C dX3_passesYear_115 (by decide) (fun z => ?_) (fun z => ?_)
      · replace h := h.1 z
        exact tb_X3_passesYear_123 C hK h hk88
      · replace h := h.2 z
        refine gx_aload_n C dX3_passesYear_118 rfl 0 rfl ?_
        refine gx_iload_n C dX3_passesYear_119 rfl 1 rfl ?_
        refine tm_callv (rest := []) C hK (fun sz => tk_X3_settles h) (cwV 1 C.t (lw_V q2562 q2564 qs81 q130 q2565) rfl rfl rfl ⟨rfl, dmX3_settles⟩ ⟨Nat.le_of_ble_eq_true rfl, Nat.le_of_ble_eq_true rfl⟩) rfl rfl (Nat.le_of_ble_eq_true rfl) dX3_passesYear_120 (fun M120 h => ?_)
        exact tb_X3_passesYear_123 C hK h hk88
def tl_X3_passesYear_88 (Q : MS → Prop) : Nat → MS → Int32 → Prop
  | 0, _, _ => False
  | n + 1, M, a1 => tj_X3_passesYear_88 M a1 (fun M a1 => tl_X3_passesYear_88 Q n M a1) Q
theorem te_X3_passesYear_88 {l : Launch} {p : Program} {e : Env} {s : State} {m : MethodId} {args : Array Value} {below : List Frame} {meth : Method} {c : Code} {D : va_G} {g : Nat → Nat} {cI cJ : ClassId} (C : gx_C p s m args meth c cX3_passesYear 2 none RX3) (hK : va_K D gcl [(cI, .int), (cJ, .long)] s) {Q : MS → Prop}  (n : Nat) : ∀ (M : MS) (a1 : Int32), tl_X3_passesYear_88 Q n M a1 → gx_W p l e (headSpec (ws_ yX3_passesYear cX3_passesYear 2 none) rmX3_passesYear).room s m args below meth c 2 (tm_I D g cI cJ s M) 0 0 (MQ below (va_Qv Q (tm_B D g cI cJ s.heap.size) (tm_A g s.heap.size)) args s 0 0 (tm_A g s.heap.size)) 88 [(0, .ref (g 0)), (1, .int a1)] [] := by
  induction n with
  | zero => intro M a1 h; exact False.elim h
  | succ n ih => intro M a1 h; exact tb_X3_passesYear_88 C hK (show tj_X3_passesYear_88 M a1 (fun M a1 => tl_X3_passesYear_88 Q n M a1) Q from h) (fun M a1 h => ih M a1 h)
def tj_X3_passesYear_65 (M : MS) (a1 : Int32) (k65 : MS → Int32 → Prop) (Q : MS → Prop) : Prop :=
  (vp_in 2 754 ∧ (((ms_r M 0 2) ≤ a1 → ∃ n : Nat, tl_X3_passesYear_88 Q n M 0) ∧ (¬ (ms_r M 0 2) ≤ a1 → tw_X3_breeds M a1 (fun M77 => k65 M77 (a1 + 1)))))
theorem tb_X3_passesYear_65 {l : Launch} {p : Program} {e : Env} {s : State} {m : MethodId} {args : Array Value} {below : List Frame} {meth : Method} {c : Code} {D : va_G} {g : Nat → Nat} {cI cJ : ClassId} (C : gx_C p s m args meth c cX3_passesYear 2 none RX3) (hK : va_K D gcl [(cI, .int), (cJ, .long)] s) {M : MS} {a1 : Int32} {k65 : MS → Int32 → Prop} {Q : MS → Prop} (h : tj_X3_passesYear_65 M a1 k65 Q) (hk65 : ∀ (M : MS) (a1 : Int32), k65 M a1 → gx_W p l e (headSpec (ws_ yX3_passesYear cX3_passesYear 2 none) rmX3_passesYear).room s m args below meth c 2 (tm_I D g cI cJ s M) 0 0 (MQ below (va_Qv Q (tm_B D g cI cJ s.heap.size) (tm_A g s.heap.size)) args s 0 0 (tm_A g s.heap.size)) 65 [(0, .ref (g 0)), (1, .int a1)] []) : gx_W p l e (headSpec (ws_ yX3_passesYear cX3_passesYear 2 none) rmX3_passesYear).room s m args below meth c 2 (tm_I D g cI cJ s M) 0 0 (MQ below (va_Qv Q (tm_B D g cI cJ s.heap.size) (tm_A g s.heap.size)) args s 0 0 (tm_A g s.heap.size)) 65 [(0, .ref (g 0)), (1, .int a1)] [] := by
  unfold tj_X3_passesYear_65 at h
  refine gx_iload_n C dX3_passesYear_65 rfl 1 rfl ?_
  refine gx_aload_n C dX3_passesYear_66 rfl 0 rfl ?_
  refine tm_get C hK 1 (by decide) q2301 rfl rfl dX3_passesYear_67 ?_
  refine gx_iconst (v := 2) C dX3_passesYear_70 (by decide) ?_
  obtain ⟨g71, h⟩ := h
  refine tm_ald0 C hK g71 dX3_passesYear_71 ?_
  refine gx_icmp_ge (tgt := 86) C dX3_passesYear_72 (by decide) (fun z => ?_) (fun z => ?_)
  · replace h := h.1 z
    refine gx_iconst (v := 0) C dX3_passesYear_86 (by decide) ?_
    refine gx_istore_n (lv' := [(1, .int 0), (0, .ref (g 0))]) C dX3_passesYear_87 rfl (by decide) rfl ?_
    refine gx_sub [1, 0] rfl ?_
    obtain ⟨n, h⟩ := h
    exact te_X3_passesYear_88 C hK n M 0 h
  · replace h := h.2 z
    refine gx_aload_n C dX3_passesYear_75 rfl 0 rfl ?_
    refine gx_iload_n C dX3_passesYear_76 rfl 1 rfl ?_
    refine tm_callv (rest := []) C hK (fun sz => tk_X3_breeds h) (cwV 1 C.t (lw_V q2550 q2552 qs78 q130 q2553) rfl rfl rfl ⟨rfl, dmX3_breeds⟩ ⟨Nat.le_of_ble_eq_true rfl, Nat.le_of_ble_eq_true rfl⟩) rfl rfl (Nat.le_of_ble_eq_true rfl) dX3_passesYear_77 (fun M77 h => ?_)
    refine gx_iinc (v := a1 + 1) (k := 1) (lv' := [(1, .int (a1 + 1)), (0, .ref (g 0))]) C dX3_passesYear_80 rfl rfl (by decide) rfl ?_
    refine gx_goto (tgt := 65) C dX3_passesYear_83 (by decide) ?_
    refine gx_sub [1, 0] rfl ?_
    exact hk65 M77 (a1 + 1) h
def tl_X3_passesYear_65 (Q : MS → Prop) : Nat → MS → Int32 → Prop
  | 0, _, _ => False
  | n + 1, M, a1 => tj_X3_passesYear_65 M a1 (fun M a1 => tl_X3_passesYear_65 Q n M a1) Q
theorem te_X3_passesYear_65 {l : Launch} {p : Program} {e : Env} {s : State} {m : MethodId} {args : Array Value} {below : List Frame} {meth : Method} {c : Code} {D : va_G} {g : Nat → Nat} {cI cJ : ClassId} (C : gx_C p s m args meth c cX3_passesYear 2 none RX3) (hK : va_K D gcl [(cI, .int), (cJ, .long)] s) {Q : MS → Prop}  (n : Nat) : ∀ (M : MS) (a1 : Int32), tl_X3_passesYear_65 Q n M a1 → gx_W p l e (headSpec (ws_ yX3_passesYear cX3_passesYear 2 none) rmX3_passesYear).room s m args below meth c 2 (tm_I D g cI cJ s M) 0 0 (MQ below (va_Qv Q (tm_B D g cI cJ s.heap.size) (tm_A g s.heap.size)) args s 0 0 (tm_A g s.heap.size)) 65 [(0, .ref (g 0)), (1, .int a1)] [] := by
  induction n with
  | zero => intro M a1 h; exact False.elim h
  | succ n ih => intro M a1 h; exact tb_X3_passesYear_65 C hK (show tj_X3_passesYear_65 M a1 (fun M a1 => tl_X3_passesYear_65 Q n M a1) Q from h) (fun M a1 h => ih M a1 h)
def tj_X3_passesYear_34 (M : MS) (a1 : Int32) (k34 : MS → Int32 → Prop) (Q : MS → Prop) : Prop :=
  (vp_in 2 754 ∧ (((ms_r M 0 2) ≤ a1 → tw_X3_meetsRoads M (fun M56 => tw_X3_ages M56 (fun M60 => ∃ n : Nat, tl_X3_passesYear_65 Q n M60 0))) ∧ (¬ (ms_r M 0 2) ≤ a1 → tw_X3_feeds M a1 (fun M46 => k34 M46 (a1 + 1)))))
theorem tb_X3_passesYear_34 {l : Launch} {p : Program} {e : Env} {s : State} {m : MethodId} {args : Array Value} {below : List Frame} {meth : Method} {c : Code} {D : va_G} {g : Nat → Nat} {cI cJ : ClassId} (C : gx_C p s m args meth c cX3_passesYear 2 none RX3) (hK : va_K D gcl [(cI, .int), (cJ, .long)] s) {M : MS} {a1 : Int32} {k34 : MS → Int32 → Prop} {Q : MS → Prop} (h : tj_X3_passesYear_34 M a1 k34 Q) (hk34 : ∀ (M : MS) (a1 : Int32), k34 M a1 → gx_W p l e (headSpec (ws_ yX3_passesYear cX3_passesYear 2 none) rmX3_passesYear).room s m args below meth c 2 (tm_I D g cI cJ s M) 0 0 (MQ below (va_Qv Q (tm_B D g cI cJ s.heap.size) (tm_A g s.heap.size)) args s 0 0 (tm_A g s.heap.size)) 34 [(0, .ref (g 0)), (1, .int a1)] []) : gx_W p l e (headSpec (ws_ yX3_passesYear cX3_passesYear 2 none) rmX3_passesYear).room s m args below meth c 2 (tm_I D g cI cJ s M) 0 0 (MQ below (va_Qv Q (tm_B D g cI cJ s.heap.size) (tm_A g s.heap.size)) args s 0 0 (tm_A g s.heap.size)) 34 [(0, .ref (g 0)), (1, .int a1)] [] := by
  unfold tj_X3_passesYear_34 at h
  refine gx_iload_n C dX3_passesYear_34 rfl 1 rfl ?_
  refine gx_aload_n C dX3_passesYear_35 rfl 0 rfl ?_
  refine tm_get C hK 1 (by decide) q2301 rfl rfl dX3_passesYear_36 ?_
  refine gx_iconst (v := 2) C dX3_passesYear_39 (by decide) ?_
  obtain ⟨g40, h⟩ := h
  refine tm_ald0 C hK g40 dX3_passesYear_40 ?_
  refine gx_icmp_ge (tgt := 55) C dX3_passesYear_41 (by decide) (fun z => ?_) (fun z => ?_)
  · replace h := h.1 z
    refine gx_aload_n C dX3_passesYear_55 rfl 0 rfl ?_
    refine tm_callv (rest := []) C hK (fun sz => tk_X3_meetsRoads h) (cwV 0 C.t (lw_V q2537 q2539 qs75 q130 q2540) rfl rfl rfl ⟨rfl, dmX3_meetsRoads⟩ ⟨Nat.le_of_ble_eq_true rfl, Nat.le_of_ble_eq_true rfl⟩) rfl rfl (Nat.le_of_ble_eq_true rfl) dX3_passesYear_56 (fun M56 h => ?_)
    refine gx_aload_n C dX3_passesYear_59 rfl 0 rfl ?_
    refine tm_callv (rest := []) C hK (fun sz => tk_X3_ages h) (cwV 0 C.t (lw_V q2546 q2548 qs77 q130 q2549) rfl rfl rfl ⟨rfl, dmX3_ages⟩ ⟨Nat.le_of_ble_eq_true rfl, Nat.le_of_ble_eq_true rfl⟩) rfl rfl (Nat.le_of_ble_eq_true rfl) dX3_passesYear_60 (fun M60 h => ?_)
    refine gx_iconst (v := 0) C dX3_passesYear_63 (by decide) ?_
    refine gx_istore_n (lv' := [(1, .int 0), (0, .ref (g 0))]) C dX3_passesYear_64 rfl (by decide) rfl ?_
    refine gx_sub [1, 0] rfl ?_
    obtain ⟨n, h⟩ := h
    exact te_X3_passesYear_65 C hK n M60 0 h
  · replace h := h.2 z
    refine gx_aload_n C dX3_passesYear_44 rfl 0 rfl ?_
    refine gx_iload_n C dX3_passesYear_45 rfl 1 rfl ?_
    refine tm_callv (rest := []) C hK (fun sz => tk_X3_feeds h) (cwV 1 C.t (lw_V q2513 q2515 qs69 q130 q2516) rfl rfl rfl ⟨rfl, dmX3_feeds⟩ ⟨Nat.le_of_ble_eq_true rfl, Nat.le_of_ble_eq_true rfl⟩) rfl rfl (Nat.le_of_ble_eq_true rfl) dX3_passesYear_46 (fun M46 h => ?_)
    refine gx_iinc (v := a1 + 1) (k := 1) (lv' := [(1, .int (a1 + 1)), (0, .ref (g 0))]) C dX3_passesYear_49 rfl rfl (by decide) rfl ?_
    refine gx_goto (tgt := 34) C dX3_passesYear_52 (by decide) ?_
    refine gx_sub [1, 0] rfl ?_
    exact hk34 M46 (a1 + 1) h
def tl_X3_passesYear_34 (Q : MS → Prop) : Nat → MS → Int32 → Prop
  | 0, _, _ => False
  | n + 1, M, a1 => tj_X3_passesYear_34 M a1 (fun M a1 => tl_X3_passesYear_34 Q n M a1) Q
theorem te_X3_passesYear_34 {l : Launch} {p : Program} {e : Env} {s : State} {m : MethodId} {args : Array Value} {below : List Frame} {meth : Method} {c : Code} {D : va_G} {g : Nat → Nat} {cI cJ : ClassId} (C : gx_C p s m args meth c cX3_passesYear 2 none RX3) (hK : va_K D gcl [(cI, .int), (cJ, .long)] s) {Q : MS → Prop}  (n : Nat) : ∀ (M : MS) (a1 : Int32), tl_X3_passesYear_34 Q n M a1 → gx_W p l e (headSpec (ws_ yX3_passesYear cX3_passesYear 2 none) rmX3_passesYear).room s m args below meth c 2 (tm_I D g cI cJ s M) 0 0 (MQ below (va_Qv Q (tm_B D g cI cJ s.heap.size) (tm_A g s.heap.size)) args s 0 0 (tm_A g s.heap.size)) 34 [(0, .ref (g 0)), (1, .int a1)] [] := by
  induction n with
  | zero => intro M a1 h; exact False.elim h
  | succ n ih => intro M a1 h; exact tb_X3_passesYear_34 C hK (show tj_X3_passesYear_34 M a1 (fun M a1 => tl_X3_passesYear_34 Q n M a1) Q from h) (fun M a1 h => ih M a1 h)
def tj_X3_passesYear_6 (M : MS) (a1 : Int32) (k6 : MS → Int32 → Prop) (Q : MS → Prop) : Prop :=
  ((64 ≤ a1 → ∃ n : Nat, tl_X3_passesYear_34 Q n M 0) ∧ (¬ (64 ≤ a1) → tw_X3_next M a1 (fun r22 M22 => (vp_in (80 + a1) 754 ∧ ∀ M25 : MS, M25 = ms_a M22 0 (80 + a1) r22 → k6 M25 (a1 + 1)))))
theorem tb_X3_passesYear_6 {l : Launch} {p : Program} {e : Env} {s : State} {m : MethodId} {args : Array Value} {below : List Frame} {meth : Method} {c : Code} {D : va_G} {g : Nat → Nat} {cI cJ : ClassId} (C : gx_C p s m args meth c cX3_passesYear 2 none RX3) (hK : va_K D gcl [(cI, .int), (cJ, .long)] s) {M : MS} {a1 : Int32} {k6 : MS → Int32 → Prop} {Q : MS → Prop} (h : tj_X3_passesYear_6 M a1 k6 Q) (hk6 : ∀ (M : MS) (a1 : Int32), k6 M a1 → gx_W p l e (headSpec (ws_ yX3_passesYear cX3_passesYear 2 none) rmX3_passesYear).room s m args below meth c 2 (tm_I D g cI cJ s M) 0 0 (MQ below (va_Qv Q (tm_B D g cI cJ s.heap.size) (tm_A g s.heap.size)) args s 0 0 (tm_A g s.heap.size)) 6 [(0, .ref (g 0)), (1, .int a1)] []) : gx_W p l e (headSpec (ws_ yX3_passesYear cX3_passesYear 2 none) rmX3_passesYear).room s m args below meth c 2 (tm_I D g cI cJ s M) 0 0 (MQ below (va_Qv Q (tm_B D g cI cJ s.heap.size) (tm_A g s.heap.size)) args s 0 0 (tm_A g s.heap.size)) 6 [(0, .ref (g 0)), (1, .int a1)] [] := by
  unfold tj_X3_passesYear_6 at h
  refine gx_iload_n C dX3_passesYear_6 rfl 1 rfl ?_
  refine gx_bipush (v := 64) C dX3_passesYear_7 (by decide) ?_
  refine gx_icmp_ge (tgt := 32) C dX3_passesYear_9 (by decide) (fun z => ?_) (fun z => ?_)
  · replace h := h.1 z
    refine gx_iconst (v := 0) C dX3_passesYear_32 (by decide) ?_
    refine gx_istore_n (lv' := [(1, .int 0), (0, .ref (g 0))]) C dX3_passesYear_33 rfl (by decide) rfl ?_
    refine gx_sub [1, 0] rfl ?_
    obtain ⟨n, h⟩ := h
    exact te_X3_passesYear_34 C hK n M 0 h
  · replace h := h.2 z
    refine gx_aload_n C dX3_passesYear_12 rfl 0 rfl ?_
    refine tm_get C hK 1 (by decide) q2301 rfl rfl dX3_passesYear_13 ?_
    refine gx_bipush (v := 80) C dX3_passesYear_16 (by decide) ?_
    refine gx_iload_n C dX3_passesYear_18 rfl 1 rfl ?_
    refine gx_iadd C dX3_passesYear_19 ?_
    refine gx_aload_n C dX3_passesYear_20 rfl 0 rfl ?_
    refine gx_iload_n C dX3_passesYear_21 rfl 1 rfl ?_
    refine tm_calli (rest := [.int (80 + a1), .ref (g 1)]) C hK (fun sz => tk_X3_next h) (cwV 1 C.t (lw_V q2509 q2511 qs68 q130 q2512) rfl rfl rfl ⟨rfl, dmX3_next⟩ ⟨Nat.le_of_ble_eq_true rfl, Nat.le_of_ble_eq_true rfl⟩) rfl rfl (Nat.le_of_ble_eq_true rfl) dX3_passesYear_22 (fun r22 M22 h => ?_)
    obtain ⟨g25, h⟩ := h
    refine tm_ast0 C hK g25 dX3_passesYear_25 (fun M25 e_M25 => ?_)
    replace h := h M25 e_M25
    refine gx_iinc (v := a1 + 1) (k := 1) (lv' := [(1, .int (a1 + 1)), (0, .ref (g 0))]) C dX3_passesYear_26 rfl rfl (by decide) rfl ?_
    refine gx_goto (tgt := 6) C dX3_passesYear_29 (by decide) ?_
    refine gx_sub [1, 0] rfl ?_
    exact hk6 M25 (a1 + 1) h
def tl_X3_passesYear_6 (Q : MS → Prop) : Nat → MS → Int32 → Prop
  | 0, _, _ => False
  | n + 1, M, a1 => tj_X3_passesYear_6 M a1 (fun M a1 => tl_X3_passesYear_6 Q n M a1) Q
theorem te_X3_passesYear_6 {l : Launch} {p : Program} {e : Env} {s : State} {m : MethodId} {args : Array Value} {below : List Frame} {meth : Method} {c : Code} {D : va_G} {g : Nat → Nat} {cI cJ : ClassId} (C : gx_C p s m args meth c cX3_passesYear 2 none RX3) (hK : va_K D gcl [(cI, .int), (cJ, .long)] s) {Q : MS → Prop}  (n : Nat) : ∀ (M : MS) (a1 : Int32), tl_X3_passesYear_6 Q n M a1 → gx_W p l e (headSpec (ws_ yX3_passesYear cX3_passesYear 2 none) rmX3_passesYear).room s m args below meth c 2 (tm_I D g cI cJ s M) 0 0 (MQ below (va_Qv Q (tm_B D g cI cJ s.heap.size) (tm_A g s.heap.size)) args s 0 0 (tm_A g s.heap.size)) 6 [(0, .ref (g 0)), (1, .int a1)] [] := by
  induction n with
  | zero => intro M a1 h; exact False.elim h
  | succ n ih => intro M a1 h; exact tb_X3_passesYear_6 C hK (show tj_X3_passesYear_6 M a1 (fun M a1 => tl_X3_passesYear_6 Q n M a1) Q from h) (fun M a1 h => ih M a1 h)
def tw_X3_passesYear (M : MS) (Q : MS → Prop) : Prop :=
  tw_X3_laysRanges M (fun M1 => ∃ n : Nat, tl_X3_passesYear_6 Q n M1 0)
theorem tk_X3_passesYear {l : Launch} {D : va_G} {g : Nat → Nat} {cI cJ : ClassId} {sz : Nat} {M : MS} {Q : MS → Prop} (h : tw_X3_passesYear M Q) : tm_Met l yX3_passesYear cX3_passesYear 2 none rmX3_passesYear [] D g cI cJ sz M (va_Qv Q (tm_B D g cI cJ sz) (tm_A g sz)) := by
  refine tm_entry (by decide) (Nat.le_of_ble_eq_true rfl) (fun p e s m args below meth c hsz C hK => ?_)
  subst hsz
  unfold tw_X3_passesYear at h
  show gx_W p l e (headSpec (ws_ yX3_passesYear cX3_passesYear 2 none) rmX3_passesYear).room s m args below meth c 2 (tm_I D g cI cJ s M) 0 0 (MQ below (va_Qv Q (tm_B D g cI cJ s.heap.size) (tm_A g s.heap.size)) args s 0 0 (tm_A g s.heap.size)) 0 [(0, .ref (g 0))] []
  refine gx_aload_n C dX3_passesYear_0 rfl 0 rfl ?_
  refine tm_callv (rest := []) C hK (fun sz => tk_X3_laysRanges h) (cwV 0 C.t (lw_V q2489 q2491 qs66 q130 q2492) rfl rfl rfl ⟨rfl, dmX3_laysRanges⟩ ⟨Nat.le_of_ble_eq_true rfl, Nat.le_of_ble_eq_true rfl⟩) rfl rfl (Nat.le_of_ble_eq_true rfl) dX3_passesYear_1 (fun M1 h => ?_)
  refine gx_iconst (v := 0) C dX3_passesYear_4 (by decide) ?_
  refine gx_istore_n (lv' := [(1, .int 0), (0, .ref (g 0))]) C dX3_passesYear_5 rfl (by decide) rfl ?_
  refine gx_sub [1, 0] rfl ?_
  obtain ⟨n, h⟩ := h
  exact te_X3_passesYear_6 C hK n M1 0 h
/-! years(I)I -/
abbrev rmX3_years : Room := { frames := 10, cells := 0, slots := 0, locals := 227 }
theorem dmX3_years : yX3_years.cls ≠ "java/lang/invoke/MethodHandle" ∧ yX3_years.cls ≠ "java/lang/invoke/VarHandle" ∧ (parseMethodDescriptor yX3_years.desc).map (fun d => d.parameters.length) = some 1 := by decide +kernel
def tj_X3_years_2 (M : MS) (a1 : Int32) (a2 : Int32) (k2 : MS → Int32 → Int32 → Prop) (Q : Int32 → MS → Prop) : Prop :=
  ((a1 ≤ a2 → (vp_in 3 754 ∧ Q (ms_r M 0 3) M)) ∧ (¬ (a1 ≤ a2) → tw_X3_passesYear M (fun M8 => k2 M8 a1 (a2 + 1))))
theorem tb_X3_years_2 {l : Launch} {p : Program} {e : Env} {s : State} {m : MethodId} {args : Array Value} {below : List Frame} {meth : Method} {c : Code} {D : va_G} {g : Nat → Nat} {cI cJ : ClassId} (C : gx_C p s m args meth c cX3_years 3 (some .int) RX3) (hK : va_K D gcl [(cI, .int), (cJ, .long)] s) {M : MS} {a1 : Int32} {a2 : Int32} {k2 : MS → Int32 → Int32 → Prop} {Q : Int32 → MS → Prop} (h : tj_X3_years_2 M a1 a2 k2 Q) (hk2 : ∀ (M : MS) (a1 : Int32) (a2 : Int32), k2 M a1 a2 → gx_W p l e (headSpec (ws_ yX3_years cX3_years 3 (some .int)) rmX3_years).room s m args below meth c 3 (tm_I D g cI cJ s M) 0 0 (MQ below (va_Qi Q (tm_B D g cI cJ s.heap.size) (tm_A g s.heap.size)) args s 0 0 (tm_A g s.heap.size)) 2 [(0, .ref (g 0)), (1, .int a1), (2, .int a2)] []) : gx_W p l e (headSpec (ws_ yX3_years cX3_years 3 (some .int)) rmX3_years).room s m args below meth c 3 (tm_I D g cI cJ s M) 0 0 (MQ below (va_Qi Q (tm_B D g cI cJ s.heap.size) (tm_A g s.heap.size)) args s 0 0 (tm_A g s.heap.size)) 2 [(0, .ref (g 0)), (1, .int a1), (2, .int a2)] [] := by
  unfold tj_X3_years_2 at h
  refine gx_iload_n C dX3_years_2 rfl 2 rfl ?_
  refine gx_iload_n C dX3_years_3 rfl 1 rfl ?_
  refine gx_icmp_ge (tgt := 17) C dX3_years_4 (by decide) (fun z => ?_) (fun z => ?_)
  · replace h := h.1 z
    refine gx_aload_n C dX3_years_17 rfl 0 rfl ?_
    refine tm_get C hK 1 (by decide) q2301 rfl rfl dX3_years_18 ?_
    refine gx_iconst (v := 3) C dX3_years_21 (by decide) ?_
    obtain ⟨g22, h⟩ := h
    refine tm_ald0 C hK g22 dX3_years_22 ?_
    exact tm_iret C hK h dX3_years_23
  · replace h := h.2 z
    refine gx_aload_n C dX3_years_7 rfl 0 rfl ?_
    refine tm_callv (rest := []) C hK (fun sz => tk_X3_passesYear h) (cwV 0 C.t (lw_V q2485 q2487 qs65 q130 q2488) rfl rfl rfl ⟨rfl, dmX3_passesYear⟩ ⟨Nat.le_of_ble_eq_true rfl, Nat.le_of_ble_eq_true rfl⟩) rfl rfl (Nat.le_of_ble_eq_true rfl) dX3_years_8 (fun M8 h => ?_)
    refine gx_iinc (v := a2 + 1) (k := 2) (lv' := [(2, .int (a2 + 1)), (0, .ref (g 0)), (1, .int a1)]) C dX3_years_11 rfl rfl (by decide) rfl ?_
    refine gx_goto (tgt := 2) C dX3_years_14 (by decide) ?_
    refine gx_sub [1, 2, 0] rfl ?_
    exact hk2 M8 a1 (a2 + 1) h
def tl_X3_years_2 (Q : Int32 → MS → Prop) : Nat → MS → Int32 → Int32 → Prop
  | 0, _, _, _ => False
  | n + 1, M, a1, a2 => tj_X3_years_2 M a1 a2 (fun M a1 a2 => tl_X3_years_2 Q n M a1 a2) Q
theorem te_X3_years_2 {l : Launch} {p : Program} {e : Env} {s : State} {m : MethodId} {args : Array Value} {below : List Frame} {meth : Method} {c : Code} {D : va_G} {g : Nat → Nat} {cI cJ : ClassId} (C : gx_C p s m args meth c cX3_years 3 (some .int) RX3) (hK : va_K D gcl [(cI, .int), (cJ, .long)] s) {Q : Int32 → MS → Prop}  (n : Nat) : ∀ (M : MS) (a1 : Int32) (a2 : Int32), tl_X3_years_2 Q n M a1 a2 → gx_W p l e (headSpec (ws_ yX3_years cX3_years 3 (some .int)) rmX3_years).room s m args below meth c 3 (tm_I D g cI cJ s M) 0 0 (MQ below (va_Qi Q (tm_B D g cI cJ s.heap.size) (tm_A g s.heap.size)) args s 0 0 (tm_A g s.heap.size)) 2 [(0, .ref (g 0)), (1, .int a1), (2, .int a2)] [] := by
  induction n with
  | zero => intro M a1 a2 h; exact False.elim h
  | succ n ih => intro M a1 a2 h; exact tb_X3_years_2 C hK (show tj_X3_years_2 M a1 a2 (fun M a1 a2 => tl_X3_years_2 Q n M a1 a2) Q from h) (fun M a1 a2 h => ih M a1 a2 h)
def tw_X3_years (M : MS) (a1 : Int32) (Q : Int32 → MS → Prop) : Prop :=
  ∃ n : Nat, tl_X3_years_2 Q n M a1 0
theorem tk_X3_years {l : Launch} {D : va_G} {g : Nat → Nat} {cI cJ : ClassId} {sz : Nat} {M : MS} {a1 : Int32} {Q : Int32 → MS → Prop} (h : tw_X3_years M a1 Q) : tm_Met l yX3_years cX3_years 3 (some .int) rmX3_years [.int a1] D g cI cJ sz M (va_Qi Q (tm_B D g cI cJ sz) (tm_A g sz)) := by
  refine tm_entry (by decide) (Nat.le_of_ble_eq_true rfl) (fun p e s m args below meth c hsz C hK => ?_)
  subst hsz
  unfold tw_X3_years at h
  show gx_W p l e (headSpec (ws_ yX3_years cX3_years 3 (some .int)) rmX3_years).room s m args below meth c 3 (tm_I D g cI cJ s M) 0 0 (MQ below (va_Qi Q (tm_B D g cI cJ s.heap.size) (tm_A g s.heap.size)) args s 0 0 (tm_A g s.heap.size)) 0 [(0, .ref (g 0)), (1, .int a1)] []
  refine gx_iconst (v := 0) C dX3_years_0 (by decide) ?_
  refine gx_istore_n (lv' := [(2, .int 0), (0, .ref (g 0)), (1, .int a1)]) C dX3_years_1 rfl (by decide) rfl ?_
  refine gx_sub [1, 2, 0] rfl ?_
  obtain ⟨n, h⟩ := h
  exact te_X3_years_2 C hK n M a1 0 h
/-! pass(I)I -/
abbrev rmX3_pass : Room := { frames := 11, cells := 0, slots := 0, locals := 249 }
theorem dmX3_pass : yX3_pass.cls ≠ "java/lang/invoke/MethodHandle" ∧ yX3_pass.cls ≠ "java/lang/invoke/VarHandle" ∧ (parseMethodDescriptor yX3_pass.desc).map (fun d => d.parameters.length) = some 1 := by decide +kernel
def tj_X3_pass_31 (M : MS) (a1 : Int32) (s1 : Int32) (Q : Int32 → MS → Prop) : Prop :=
  (∀ M31 : MS, M31 = ms_s M 0 s1 → (((M31.1 0) ≤ 0 → tw_X3_record M31 (fun M44 => tw_X3_years M44 a1 (fun r49 M49 => Q r49 M49))) ∧ (¬ (M31.1 0) ≤ 0 → Q 0 M31)))
theorem tb_X3_pass_31 {l : Launch} {p : Program} {e : Env} {s : State} {m : MethodId} {args : Array Value} {below : List Frame} {meth : Method} {c : Code} {D : va_G} {g : Nat → Nat} {cI cJ : ClassId} (C : gx_C p s m args meth c cX3_pass 2 (some .int) RX3) (hK : va_K D gcl [(cI, .int), (cJ, .long)] s) {M : MS} {a1 : Int32} {s1 : Int32} {Q : Int32 → MS → Prop} (h : tj_X3_pass_31 M a1 s1 Q)  : gx_W p l e (headSpec (ws_ yX3_pass cX3_pass 2 (some .int)) rmX3_pass).room s m args below meth c 2 (tm_I D g cI cJ s M) 0 0 (MQ below (va_Qi Q (tm_B D g cI cJ s.heap.size) (tm_A g s.heap.size)) args s 0 0 (tm_A g s.heap.size)) 31 [(0, .ref (g 0)), (1, .int a1)] [.int s1, .ref (g 0)] := by
  unfold tj_X3_pass_31 at h
  refine tm_put0 C hK q2300 dX3_pass_31 (fun M31 e_M31 => ?_)
  replace h := h M31 e_M31
  refine gx_aload_n C dX3_pass_34 rfl 0 rfl ?_
  refine tm_get C hK 0 (by decide) q2300 rfl rfl dX3_pass_35 ?_
  refine gx_if_le (tgt := 43) C dX3_pass_38 (by decide) (fun z => ?_) (fun z => ?_)
  · replace h := h.1 z
    refine gx_aload_n C dX3_pass_43 rfl 0 rfl ?_
    refine tm_callv (rest := []) C hK (fun sz => tk_X3_record h) (cwV 0 C.t (lw_V q2371 q2373 qs47 q130 q2374) rfl rfl rfl ⟨rfl, dmX3_record⟩ ⟨Nat.le_of_ble_eq_true rfl, Nat.le_of_ble_eq_true rfl⟩) rfl rfl (Nat.le_of_ble_eq_true rfl) dX3_pass_44 (fun M44 h => ?_)
    refine gx_aload_n C dX3_pass_47 rfl 0 rfl ?_
    refine gx_iload_n C dX3_pass_48 rfl 1 rfl ?_
    refine tm_calli (rest := []) C hK (fun sz => tk_X3_years h) (cwV 1 C.t (lw_V q2481 q2483 qs64 q130 q2484) rfl rfl rfl ⟨rfl, dmX3_years⟩ ⟨Nat.le_of_ble_eq_true rfl, Nat.le_of_ble_eq_true rfl⟩) rfl rfl (Nat.le_of_ble_eq_true rfl) dX3_pass_49 (fun r49 M49 h => ?_)
    exact tm_iret C hK h dX3_pass_52
  · replace h := h.2 z
    refine gx_iconst (v := 0) C dX3_pass_41 (by decide) ?_
    exact tm_iret C hK h dX3_pass_42
def tw_X3_pass (M : MS) (a1 : Int32) (Q : Int32 → MS → Prop) : Prop :=
  pw_X3_areYears a1 (fun r2 => ((r2 = 0 → tj_X3_pass_31 M a1 1 Q) ∧ (¬ (r2 = 0) → (vp_in 0 754 ∧ tj_X3_pass_31 M a1 ((if ((ms_r M 0 0) + a1) ≤ 999 then 0 else 2)) Q))))
theorem tk_X3_pass {l : Launch} {D : va_G} {g : Nat → Nat} {cI cJ : ClassId} {sz : Nat} {M : MS} {a1 : Int32} {Q : Int32 → MS → Prop} (h : tw_X3_pass M a1 Q) : tm_Met l yX3_pass cX3_pass 2 (some .int) rmX3_pass [.int a1] D g cI cJ sz M (va_Qi Q (tm_B D g cI cJ sz) (tm_A g sz)) := by
  refine tm_entry (by decide) (Nat.le_of_ble_eq_true rfl) (fun p e s m args below meth c hsz C hK => ?_)
  subst hsz
  unfold tw_X3_pass at h
  show gx_W p l e (headSpec (ws_ yX3_pass cX3_pass 2 (some .int)) rmX3_pass).room s m args below meth c 2 (tm_I D g cI cJ s M) 0 0 (MQ below (va_Qi Q (tm_B D g cI cJ s.heap.size) (tm_A g s.heap.size)) args s 0 0 (tm_A g s.heap.size)) 0 [(0, .ref (g 0)), (1, .int a1)] []
  refine gx_aload_n C dX3_pass_0 rfl 0 rfl ?_
  refine gx_iload_n C dX3_pass_1 rfl 1 rfl ?_
  refine gx_calls_i (rest := [.ref (g 0)]) C (pk_X3_areYears h) (va_cwS 1 C.t (lw_S q2478 q2479 q130 q2480) rfl rfl rfl dmX3_areYears ⟨Nat.le_of_ble_eq_true rfl, Nat.le_of_ble_eq_true rfl⟩) rfl rfl (Nat.le_of_ble_eq_true rfl) ⟨Nat.zero_le _, Nat.zero_le _⟩ dX3_pass_2 (fun r2 h => ?_)
  refine gx_if_ne (tgt := 12) C dX3_pass_5 (by decide) (fun z => ?_) (fun z => ?_)
  · replace h := h.2 z
    refine gx_aload_n C dX3_pass_12 rfl 0 rfl ?_
    refine tm_get C hK 1 (by decide) q2301 rfl rfl dX3_pass_13 ?_
    refine gx_iconst (v := 0) C dX3_pass_16 (by decide) ?_
    obtain ⟨g17, h⟩ := h
    refine tm_ald0 C hK g17 dX3_pass_17 ?_
    refine gx_iload_n C dX3_pass_18 rfl 1 rfl ?_
    refine gx_iadd C dX3_pass_19 ?_
    refine gx_sipush (v := 999) C dX3_pass_20 (by decide) ?_
    refine gx_phii (t := (if ((ms_r M 0 0) + a1) ≤ 999 then 0 else 2)) (pc2 := 31) (lv2 := [(0, .ref (g 0)), (1, .int a1)]) (rest2 := [.ref (g 0)]) (fun key => ?_) ?_
    · refine gx_icmp_le (tgt := 30) C dX3_pass_23 (by decide) (fun z1 => ?_) (fun z1 => ?_)
      · refine gx_iconst (v := 0) C dX3_pass_30 (by decide) ?_
        exact gx_casti (if_pos z1) key
      · refine gx_iconst (v := 2) C dX3_pass_26 (by decide) ?_
        refine gx_goto (tgt := 31) C dX3_pass_27 (by decide) ?_
        exact gx_casti (if_neg z1) key
    exact tb_X3_pass_31 C hK h
  · replace h := h.1 z
    refine gx_iconst (v := 1) C dX3_pass_8 (by decide) ?_
    refine gx_goto (tgt := 31) C dX3_pass_9 (by decide) ?_
    exact tb_X3_pass_31 C hK h
/-! tells(I)I -/
abbrev rmX3_tells : Room := { frames := 0, cells := 0, slots := 0, locals := 0 }
theorem dmX3_tells : yX3_tells.cls ≠ "java/lang/invoke/MethodHandle" ∧ yX3_tells.cls ≠ "java/lang/invoke/VarHandle" ∧ (parseMethodDescriptor yX3_tells.desc).map (fun d => d.parameters.length) = some 1 := by decide +kernel
def tw_X3_tells (M : MS) (a1 : Int32) (Q : Int32 → MS → Prop) : Prop :=
  (∀ M2 : MS, M2 = ms_s M 0 0 → Q a1 M2)
theorem tk_X3_tells {l : Launch} {D : va_G} {g : Nat → Nat} {cI cJ : ClassId} {sz : Nat} {M : MS} {a1 : Int32} {Q : Int32 → MS → Prop} (h : tw_X3_tells M a1 Q) : tm_Met l yX3_tells cX3_tells 2 (some .int) rmX3_tells [.int a1] D g cI cJ sz M (va_Qi Q (tm_B D g cI cJ sz) (tm_A g sz)) := by
  refine tm_entry (by decide) (Nat.le_of_ble_eq_true rfl) (fun p e s m args below meth c hsz C hK => ?_)
  subst hsz
  unfold tw_X3_tells at h
  show gx_W p l e (headSpec (ws_ yX3_tells cX3_tells 2 (some .int)) rmX3_tells).room s m args below meth c 2 (tm_I D g cI cJ s M) 0 0 (MQ below (va_Qi Q (tm_B D g cI cJ s.heap.size) (tm_A g s.heap.size)) args s 0 0 (tm_A g s.heap.size)) 0 [(0, .ref (g 0)), (1, .int a1)] []
  refine gx_aload_n C dX3_tells_0 rfl 0 rfl ?_
  refine gx_iconst (v := 0) C dX3_tells_1 (by decide) ?_
  refine tm_put0 C hK q2300 dX3_tells_2 (fun M2 e_M2 => ?_)
  replace h := h M2 e_M2
  refine gx_iload_n C dX3_tells_5 rfl 1 rfl ?_
  exact tm_iret C hK h dX3_tells_6
/-! year()I -/
abbrev rmX3_year : Room := { frames := 1, cells := 0, slots := 0, locals := 21 }
theorem dmX3_year : yX3_year.cls ≠ "java/lang/invoke/MethodHandle" ∧ yX3_year.cls ≠ "java/lang/invoke/VarHandle" ∧ (parseMethodDescriptor yX3_year.desc).map (fun d => d.parameters.length) = some 0 := by decide +kernel
def tw_X3_year (M : MS) (Q : Int32 → MS → Prop) : Prop :=
  (vp_in 0 754 ∧ tw_X3_tells M (ms_r M 0 0) (fun r7 M7 => Q r7 M7))
theorem tk_X3_year {l : Launch} {D : va_G} {g : Nat → Nat} {cI cJ : ClassId} {sz : Nat} {M : MS} {Q : Int32 → MS → Prop} (h : tw_X3_year M Q) : tm_Met l yX3_year cX3_year 1 (some .int) rmX3_year [] D g cI cJ sz M (va_Qi Q (tm_B D g cI cJ sz) (tm_A g sz)) := by
  refine tm_entry (by decide) (Nat.le_of_ble_eq_true rfl) (fun p e s m args below meth c hsz C hK => ?_)
  subst hsz
  unfold tw_X3_year at h
  show gx_W p l e (headSpec (ws_ yX3_year cX3_year 1 (some .int)) rmX3_year).room s m args below meth c 1 (tm_I D g cI cJ s M) 0 0 (MQ below (va_Qi Q (tm_B D g cI cJ s.heap.size) (tm_A g s.heap.size)) args s 0 0 (tm_A g s.heap.size)) 0 [(0, .ref (g 0))] []
  refine gx_aload_n C dX3_year_0 rfl 0 rfl ?_
  refine gx_aload_n C dX3_year_1 rfl 0 rfl ?_
  refine tm_get C hK 1 (by decide) q2301 rfl rfl dX3_year_2 ?_
  refine gx_iconst (v := 0) C dX3_year_5 (by decide) ?_
  obtain ⟨g6, h⟩ := h
  refine tm_ald0 C hK g6 dX3_year_6 ?_
  refine tm_calli (rest := []) C hK (fun sz => tk_X3_tells h) (cwV 1 C.t (lw_V q2570 q2572 qs82 q130 q2573) rfl rfl rfl ⟨rfl, dmX3_tells⟩ ⟨Nat.le_of_ble_eq_true rfl, Nat.le_of_ble_eq_true rfl⟩) rfl rfl (Nat.le_of_ble_eq_true rfl) dX3_year_7 (fun r7 M7 h => ?_)
  exact tm_iret C hK h dX3_year_10
/-! phase()I -/
abbrev rmX3_phase : Room := { frames := 1, cells := 0, slots := 0, locals := 21 }
theorem dmX3_phase : yX3_phase.cls ≠ "java/lang/invoke/MethodHandle" ∧ yX3_phase.cls ≠ "java/lang/invoke/VarHandle" ∧ (parseMethodDescriptor yX3_phase.desc).map (fun d => d.parameters.length) = some 0 := by decide +kernel
def tw_X3_phase (M : MS) (Q : Int32 → MS → Prop) : Prop :=
  (vp_in 0 754 ∧ tw_X3_tells M ((ms_r M 0 0) - (ms_r M 0 0) / 4 * 4) (fun r9 M9 => Q r9 M9))
theorem tk_X3_phase {l : Launch} {D : va_G} {g : Nat → Nat} {cI cJ : ClassId} {sz : Nat} {M : MS} {Q : Int32 → MS → Prop} (h : tw_X3_phase M Q) : tm_Met l yX3_phase cX3_phase 1 (some .int) rmX3_phase [] D g cI cJ sz M (va_Qi Q (tm_B D g cI cJ sz) (tm_A g sz)) := by
  refine tm_entry (by decide) (Nat.le_of_ble_eq_true rfl) (fun p e s m args below meth c hsz C hK => ?_)
  subst hsz
  unfold tw_X3_phase at h
  show gx_W p l e (headSpec (ws_ yX3_phase cX3_phase 1 (some .int)) rmX3_phase).room s m args below meth c 1 (tm_I D g cI cJ s M) 0 0 (MQ below (va_Qi Q (tm_B D g cI cJ s.heap.size) (tm_A g s.heap.size)) args s 0 0 (tm_A g s.heap.size)) 0 [(0, .ref (g 0))] []
  refine gx_aload_n C dX3_phase_0 rfl 0 rfl ?_
  refine gx_aload_n C dX3_phase_1 rfl 0 rfl ?_
  refine tm_get C hK 1 (by decide) q2301 rfl rfl dX3_phase_2 ?_
  refine gx_iconst (v := 0) C dX3_phase_5 (by decide) ?_
  obtain ⟨g6, h⟩ := h
  refine tm_ald0 C hK g6 dX3_phase_6 ?_
  refine gx_iconst (v := 4) C dX3_phase_7 (by decide) ?_
  refine gx_irem C dX3_phase_8 (by decide) ?_
  refine tm_calli (rest := []) C hK (fun sz => tk_X3_tells h) (cwV 1 C.t (lw_V q2570 q2572 qs82 q130 q2573) rfl rfl rfl ⟨rfl, dmX3_tells⟩ ⟨Nat.le_of_ble_eq_true rfl, Nat.le_of_ble_eq_true rfl⟩) rfl rfl (Nat.le_of_ble_eq_true rfl) dX3_phase_9 (fun r9 M9 h => ?_)
  exact tm_iret C hK h dX3_phase_12
/-! asksSquare(I)Z -/
abbrev rmX3_asksSquare : Room := { frames := 2, cells := 0, slots := 0, locals := 42 }
theorem dmX3_asksSquare : yX3_asksSquare.cls ≠ "java/lang/invoke/MethodHandle" ∧ yX3_asksSquare.cls ≠ "java/lang/invoke/VarHandle" ∧ (parseMethodDescriptor yX3_asksSquare.desc).map (fun d => d.parameters.length) = some 1 := by decide +kernel
def tw_X3_asksSquare (M : MS) (a1 : Int32) (Q : Int32 → MS → Prop) : Prop :=
  pw_X3_isSquare a1 (fun r2 => (∀ M13 : MS, M13 = ms_s M 0 (if r2 = 0 then 1 else 0) → Q (if (M13.1 0) = 0 then 1 else 0) M13))
theorem tk_X3_asksSquare {l : Launch} {D : va_G} {g : Nat → Nat} {cI cJ : ClassId} {sz : Nat} {M : MS} {a1 : Int32} {Q : Int32 → MS → Prop} (h : tw_X3_asksSquare M a1 Q) : tm_Met l yX3_asksSquare cX3_asksSquare 2 (some .boolean) rmX3_asksSquare [.int a1] D g cI cJ sz M (va_Qi Q (tm_B D g cI cJ sz) (tm_A g sz)) := by
  refine tm_entry (by decide) (Nat.le_of_ble_eq_true rfl) (fun p e s m args below meth c hsz C hK => ?_)
  subst hsz
  unfold tw_X3_asksSquare at h
  show gx_W p l e (headSpec (ws_ yX3_asksSquare cX3_asksSquare 2 (some .boolean)) rmX3_asksSquare).room s m args below meth c 2 (tm_I D g cI cJ s M) 0 0 (MQ below (va_Qi Q (tm_B D g cI cJ s.heap.size) (tm_A g s.heap.size)) args s 0 0 (tm_A g s.heap.size)) 0 [(0, .ref (g 0)), (1, .int a1)] []
  refine gx_aload_n C dX3_asksSquare_0 rfl 0 rfl ?_
  refine gx_iload_n C dX3_asksSquare_1 rfl 1 rfl ?_
  refine gx_calls_i (rest := [.ref (g 0)]) C (pk_X3_isSquare h) (va_cwS 1 C.t (lw_S q2357 q2358 q130 q2359) rfl rfl rfl dmX3_isSquare ⟨Nat.le_of_ble_eq_true rfl, Nat.le_of_ble_eq_true rfl⟩) rfl rfl (Nat.le_of_ble_eq_true rfl) ⟨Nat.zero_le _, Nat.zero_le _⟩ dX3_asksSquare_2 (fun r2 h => ?_)
  refine gx_phii (t := (if r2 = 0 then 1 else 0)) (pc2 := 13) (lv2 := [(0, .ref (g 0)), (1, .int a1)]) (rest2 := [.ref (g 0)]) (fun key => ?_) ?_
  · refine gx_if_eq (tgt := 12) C dX3_asksSquare_5 (by decide) (fun z1 => ?_) (fun z1 => ?_)
    · refine gx_iconst (v := 1) C dX3_asksSquare_12 (by decide) ?_
      exact gx_casti (if_pos z1) key
    · refine gx_iconst (v := 0) C dX3_asksSquare_8 (by decide) ?_
      refine gx_goto (tgt := 13) C dX3_asksSquare_9 (by decide) ?_
      exact gx_casti (if_neg z1) key
  refine tm_put0 C hK q2300 dX3_asksSquare_13 (fun M13 e_M13 => ?_)
  replace h := h M13 e_M13
  refine gx_aload_n C dX3_asksSquare_16 rfl 0 rfl ?_
  refine tm_get C hK 0 (by decide) q2300 rfl rfl dX3_asksSquare_17 ?_
  refine gx_phii (t := (if (M13.1 0) = 0 then 1 else 0)) (pc2 := 28) (lv2 := [(0, .ref (g 0)), (1, .int a1)]) (rest2 := []) (fun key => ?_) ?_
  · refine gx_if_ne (tgt := 27) C dX3_asksSquare_20 (by decide) (fun z1 => ?_) (fun z1 => ?_)
    · refine gx_iconst (v := 0) C dX3_asksSquare_27 (by decide) ?_
      exact gx_casti (if_neg z1) key
    · refine gx_iconst (v := 1) C dX3_asksSquare_23 (by decide) ?_
      refine gx_goto (tgt := 28) C dX3_asksSquare_24 (by decide) ?_
      exact gx_casti (if_pos z1) key
  exact tm_zret C hK (by repeat' (first | rfl | split)) h dX3_asksSquare_28
/-! landOf(I)I -/
abbrev rmX3_landOf : Room := { frames := 3, cells := 0, slots := 0, locals := 63 }
theorem dmX3_landOf : yX3_landOf.cls ≠ "java/lang/invoke/MethodHandle" ∧ yX3_landOf.cls ≠ "java/lang/invoke/VarHandle" ∧ (parseMethodDescriptor yX3_landOf.desc).map (fun d => d.parameters.length) = some 1 := by decide +kernel
def tj_X3_landOf_21 (M : MS) (s0 : Int32) (Q : Int32 → MS → Prop) : Prop :=
  Q s0 M
theorem tb_X3_landOf_21 {l : Launch} {p : Program} {e : Env} {s : State} {m : MethodId} {args : Array Value} {below : List Frame} {meth : Method} {c : Code} {D : va_G} {g : Nat → Nat} {cI cJ : ClassId} (C : gx_C p s m args meth c cX3_landOf 2 (some .int) RX3) (hK : va_K D gcl [(cI, .int), (cJ, .long)] s) {M : MS} {s0 : Int32} {Q : Int32 → MS → Prop} (h : tj_X3_landOf_21 M s0 Q)  : gx_W p l e (headSpec (ws_ yX3_landOf cX3_landOf 2 (some .int)) rmX3_landOf).room s m args below meth c 2 (tm_I D g cI cJ s M) 0 0 (MQ below (va_Qi Q (tm_B D g cI cJ s.heap.size) (tm_A g s.heap.size)) args s 0 0 (tm_A g s.heap.size)) 21 [] [.int s0] := by
  unfold tj_X3_landOf_21 at h
  exact tm_iret C hK h dX3_landOf_21
def tw_X3_landOf (M : MS) (a1 : Int32) (Q : Int32 → MS → Prop) : Prop :=
  tw_X3_asksSquare M a1 (fun r2 M2 => ((r2 = 0 → tj_X3_landOf_21 M2 0 Q) ∧ (¬ (r2 = 0) → (vp_in (16 + a1) 754 ∧ tj_X3_landOf_21 M2 (ms_r M2 0 (16 + a1)) Q))))
theorem tk_X3_landOf {l : Launch} {D : va_G} {g : Nat → Nat} {cI cJ : ClassId} {sz : Nat} {M : MS} {a1 : Int32} {Q : Int32 → MS → Prop} (h : tw_X3_landOf M a1 Q) : tm_Met l yX3_landOf cX3_landOf 2 (some .int) rmX3_landOf [.int a1] D g cI cJ sz M (va_Qi Q (tm_B D g cI cJ sz) (tm_A g sz)) := by
  refine tm_entry (by decide) (Nat.le_of_ble_eq_true rfl) (fun p e s m args below meth c hsz C hK => ?_)
  subst hsz
  unfold tw_X3_landOf at h
  show gx_W p l e (headSpec (ws_ yX3_landOf cX3_landOf 2 (some .int)) rmX3_landOf).room s m args below meth c 2 (tm_I D g cI cJ s M) 0 0 (MQ below (va_Qi Q (tm_B D g cI cJ s.heap.size) (tm_A g s.heap.size)) args s 0 0 (tm_A g s.heap.size)) 0 [(0, .ref (g 0)), (1, .int a1)] []
  refine gx_aload_n C dX3_landOf_0 rfl 0 rfl ?_
  refine gx_iload_n C dX3_landOf_1 rfl 1 rfl ?_
  refine tm_calli (rest := []) C hK (fun sz => tk_X3_asksSquare h) (cwV 1 C.t (lw_V q2582 q2584 qs83 q130 q2585) rfl rfl rfl ⟨rfl, dmX3_asksSquare⟩ ⟨Nat.le_of_ble_eq_true rfl, Nat.le_of_ble_eq_true rfl⟩) rfl rfl (Nat.le_of_ble_eq_true rfl) dX3_landOf_2 (fun r2 M2 h => ?_)
  refine gx_if_eq (tgt := 20) C dX3_landOf_5 (by decide) (fun z => ?_) (fun z => ?_)
  · replace h := h.1 z
    refine gx_iconst (v := 0) C dX3_landOf_20 (by decide) ?_
    refine gx_sub [] rfl ?_
    exact tb_X3_landOf_21 C hK h
  · replace h := h.2 z
    refine gx_aload_n C dX3_landOf_8 rfl 0 rfl ?_
    refine tm_get C hK 1 (by decide) q2301 rfl rfl dX3_landOf_9 ?_
    refine gx_bipush (v := 16) C dX3_landOf_12 (by decide) ?_
    refine gx_iload_n C dX3_landOf_14 rfl 1 rfl ?_
    refine gx_iadd C dX3_landOf_15 ?_
    obtain ⟨g16, h⟩ := h
    refine tm_ald0 C hK g16 dX3_landOf_16 ?_
    refine gx_goto (tgt := 21) C dX3_landOf_17 (by decide) ?_
    refine gx_sub [] rfl ?_
    exact tb_X3_landOf_21 C hK h
/-! ofKind(I)J -/
abbrev rmX3_ofKind : Room := { frames := 0, cells := 0, slots := 0, locals := 0 }
theorem dmX3_ofKind : yX3_ofKind.cls ≠ "java/lang/invoke/MethodHandle" ∧ yX3_ofKind.cls ≠ "java/lang/invoke/VarHandle" ∧ (parseMethodDescriptor yX3_ofKind.desc).map (fun d => d.parameters.length) = some 1 := by decide +kernel
def tj_X3_ofKind_5 (M : MS) (a1 : Int32) (a2 : Int64) (a4 : Int32) (k5 : MS → Int32 → Int64 → Int32 → Prop) (Q : Int64 → MS → Prop) : Prop :=
  ((64 ≤ a4 → Q a2 M) ∧ (¬ (64 ≤ a4) → (vp_in (16 + a4) 754 ∧ (∀ x36 : Int64, x36 = a2 ||| (if (ms_r M 0 (16 + a4)) = a1 then ((1 : Int64) <<< (a4.toInt64 &&& 63)) else 0) → k5 M a1 x36 (a4 + 1)))))
theorem tb_X3_ofKind_5 {l : Launch} {p : Program} {e : Env} {s : State} {m : MethodId} {args : Array Value} {below : List Frame} {meth : Method} {c : Code} {D : va_G} {g : Nat → Nat} {cI cJ : ClassId} (C : gx_C p s m args meth c cX3_ofKind 5 (some .long) RX3) (hK : va_K D gcl [(cI, .int), (cJ, .long)] s) {M : MS} {a1 : Int32} {a2 : Int64} {a4 : Int32} {k5 : MS → Int32 → Int64 → Int32 → Prop} {Q : Int64 → MS → Prop} (h : tj_X3_ofKind_5 M a1 a2 a4 k5 Q) (hk5 : ∀ (M : MS) (a1 : Int32) (a2 : Int64) (a4 : Int32), k5 M a1 a2 a4 → gx_W p l e (headSpec (ws_ yX3_ofKind cX3_ofKind 5 (some .long)) rmX3_ofKind).room s m args below meth c 5 (tm_I D g cI cJ s M) 0 0 (MQ below (va_Ql Q (tm_B D g cI cJ s.heap.size) (tm_A g s.heap.size)) args s 0 0 (tm_A g s.heap.size)) 5 [(0, .ref (g 0)), (1, .int a1), (2, .long a2), (4, .int a4)] []) : gx_W p l e (headSpec (ws_ yX3_ofKind cX3_ofKind 5 (some .long)) rmX3_ofKind).room s m args below meth c 5 (tm_I D g cI cJ s M) 0 0 (MQ below (va_Ql Q (tm_B D g cI cJ s.heap.size) (tm_A g s.heap.size)) args s 0 0 (tm_A g s.heap.size)) 5 [(0, .ref (g 0)), (1, .int a1), (2, .long a2), (4, .int a4)] [] := by
  unfold tj_X3_ofKind_5 at h
  refine gx_iload C dX3_ofKind_5 3 rfl ?_
  refine gx_bipush (v := 64) C dX3_ofKind_7 (by decide) ?_
  refine gx_icmp_ge (tgt := 43) C dX3_ofKind_9 (by decide) (fun z => ?_) (fun z => ?_)
  · replace h := h.1 z
    refine gx_lload_n C dX3_ofKind_43 rfl 2 rfl ?_
    exact tm_lret C hK h dX3_ofKind_44
  · replace h := h.2 z
    refine gx_lload_n C dX3_ofKind_12 rfl 2 rfl ?_
    refine gx_aload_n C dX3_ofKind_13 rfl 0 rfl ?_
    refine tm_get C hK 1 (by decide) q2301 rfl rfl dX3_ofKind_14 ?_
    refine gx_bipush (v := 16) C dX3_ofKind_17 (by decide) ?_
    refine gx_iload C dX3_ofKind_19 3 rfl ?_
    refine gx_iadd C dX3_ofKind_21 ?_
    obtain ⟨g22, h⟩ := h
    refine tm_ald0 C hK g22 dX3_ofKind_22 ?_
    refine gx_iload_n C dX3_ofKind_23 rfl 1 rfl ?_
    refine gx_phil (t := (if (ms_r M 0 (16 + a4)) = a1 then ((1 : Int64) <<< (a4.toInt64 &&& 63)) else 0)) (pc2 := 35) (lv2 := [(0, .ref (g 0)), (1, .int a1), (2, .long a2), (4, .int a4)]) (rest2 := [.long a2]) (fun key => ?_) ?_
    · refine gx_icmp_ne (tgt := 34) C dX3_ofKind_24 (by decide) (fun z1 => ?_) (fun z1 => ?_)
      · refine gx_lconst (v := 0) C dX3_ofKind_34 (by decide) ?_
        exact gx_castl (if_neg z1) key
      · refine gx_lconst (v := 1) C dX3_ofKind_27 (by decide) ?_
        refine gx_iload C dX3_ofKind_28 3 rfl ?_
        refine gx_lshl C dX3_ofKind_30 rfl ?_
        refine gx_goto (tgt := 35) C dX3_ofKind_31 (by decide) ?_
        exact gx_castl (if_pos z1) key
    refine gx_lor C dX3_ofKind_35 ?_
    refine gx_topl (fun x36 e_x36 => ?_)
    replace h := h x36 e_x36
    refine gx_lstore_n (lv' := [(2, .long x36), (0, .ref (g 0)), (1, .int a1), (4, .int a4)]) C dX3_ofKind_36 rfl (by decide) rfl ?_
    refine gx_iinc (v := a4 + 1) (k := 3) (lv' := [(4, .int (a4 + 1)), (2, .long x36), (0, .ref (g 0)), (1, .int a1)]) C dX3_ofKind_37 rfl rfl (by decide) rfl ?_
    refine gx_goto (tgt := 5) C dX3_ofKind_40 (by decide) ?_
    refine gx_sub [2, 3, 1, 0] rfl ?_
    exact hk5 M a1 x36 (a4 + 1) h
def tl_X3_ofKind_5 (Q : Int64 → MS → Prop) : Nat → MS → Int32 → Int64 → Int32 → Prop
  | 0, _, _, _, _ => False
  | n + 1, M, a1, a2, a4 => tj_X3_ofKind_5 M a1 a2 a4 (fun M a1 a2 a4 => tl_X3_ofKind_5 Q n M a1 a2 a4) Q
theorem te_X3_ofKind_5 {l : Launch} {p : Program} {e : Env} {s : State} {m : MethodId} {args : Array Value} {below : List Frame} {meth : Method} {c : Code} {D : va_G} {g : Nat → Nat} {cI cJ : ClassId} (C : gx_C p s m args meth c cX3_ofKind 5 (some .long) RX3) (hK : va_K D gcl [(cI, .int), (cJ, .long)] s) {Q : Int64 → MS → Prop}  (n : Nat) : ∀ (M : MS) (a1 : Int32) (a2 : Int64) (a4 : Int32), tl_X3_ofKind_5 Q n M a1 a2 a4 → gx_W p l e (headSpec (ws_ yX3_ofKind cX3_ofKind 5 (some .long)) rmX3_ofKind).room s m args below meth c 5 (tm_I D g cI cJ s M) 0 0 (MQ below (va_Ql Q (tm_B D g cI cJ s.heap.size) (tm_A g s.heap.size)) args s 0 0 (tm_A g s.heap.size)) 5 [(0, .ref (g 0)), (1, .int a1), (2, .long a2), (4, .int a4)] [] := by
  induction n with
  | zero => intro M a1 a2 a4 h; exact False.elim h
  | succ n ih => intro M a1 a2 a4 h; exact tb_X3_ofKind_5 C hK (show tj_X3_ofKind_5 M a1 a2 a4 (fun M a1 a2 a4 => tl_X3_ofKind_5 Q n M a1 a2 a4) Q from h) (fun M a1 a2 a4 h => ih M a1 a2 a4 h)
def tw_X3_ofKind (M : MS) (a1 : Int32) (Q : Int64 → MS → Prop) : Prop :=
  ∃ n : Nat, tl_X3_ofKind_5 Q n M a1 0 0
theorem tk_X3_ofKind {l : Launch} {D : va_G} {g : Nat → Nat} {cI cJ : ClassId} {sz : Nat} {M : MS} {a1 : Int32} {Q : Int64 → MS → Prop} (h : tw_X3_ofKind M a1 Q) : tm_Met l yX3_ofKind cX3_ofKind 5 (some .long) rmX3_ofKind [.int a1] D g cI cJ sz M (va_Ql Q (tm_B D g cI cJ sz) (tm_A g sz)) := by
  refine tm_entry (by decide) (Nat.le_of_ble_eq_true rfl) (fun p e s m args below meth c hsz C hK => ?_)
  subst hsz
  unfold tw_X3_ofKind at h
  show gx_W p l e (headSpec (ws_ yX3_ofKind cX3_ofKind 5 (some .long)) rmX3_ofKind).room s m args below meth c 5 (tm_I D g cI cJ s M) 0 0 (MQ below (va_Ql Q (tm_B D g cI cJ s.heap.size) (tm_A g s.heap.size)) args s 0 0 (tm_A g s.heap.size)) 0 [(0, .ref (g 0)), (1, .int a1)] []
  refine gx_lconst (v := 0) C dX3_ofKind_0 (by decide) ?_
  refine gx_lstore_n (lv' := [(2, .long 0), (0, .ref (g 0)), (1, .int a1)]) C dX3_ofKind_1 rfl (by decide) rfl ?_
  refine gx_iconst (v := 0) C dX3_ofKind_2 (by decide) ?_
  refine gx_istore (lv' := [(4, .int 0), (2, .long 0), (0, .ref (g 0)), (1, .int a1)]) C dX3_ofKind_3 (by decide) rfl ?_
  refine gx_sub [2, 3, 1, 0] rfl ?_
  obtain ⟨n, h⟩ := h
  exact te_X3_ofKind_5 C hK n M a1 0 0 h
/-! squaresOf(I)J -/
abbrev rmX3_squaresOf : Room := { frames := 1, cells := 0, slots := 0, locals := 24 }
theorem dmX3_squaresOf : yX3_squaresOf.cls ≠ "java/lang/invoke/MethodHandle" ∧ yX3_squaresOf.cls ≠ "java/lang/invoke/VarHandle" ∧ (parseMethodDescriptor yX3_squaresOf.desc).map (fun d => d.parameters.length) = some 1 := by decide +kernel
def tj_X3_squaresOf_34 (M : MS) (s0 : Int64) (Q : Int64 → MS → Prop) : Prop :=
  Q s0 M
theorem tb_X3_squaresOf_34 {l : Launch} {p : Program} {e : Env} {s : State} {m : MethodId} {args : Array Value} {below : List Frame} {meth : Method} {c : Code} {D : va_G} {g : Nat → Nat} {cI cJ : ClassId} (C : gx_C p s m args meth c cX3_squaresOf 2 (some .long) RX3) (hK : va_K D gcl [(cI, .int), (cJ, .long)] s) {M : MS} {s0 : Int64} {Q : Int64 → MS → Prop} (h : tj_X3_squaresOf_34 M s0 Q)  : gx_W p l e (headSpec (ws_ yX3_squaresOf cX3_squaresOf 2 (some .long)) rmX3_squaresOf).room s m args below meth c 2 (tm_I D g cI cJ s M) 0 0 (MQ below (va_Ql Q (tm_B D g cI cJ s.heap.size) (tm_A g s.heap.size)) args s 0 0 (tm_A g s.heap.size)) 34 [] [.long s0] := by
  unfold tj_X3_squaresOf_34 at h
  exact tm_lret C hK h dX3_squaresOf_34
def tw_X3_squaresOf (M : MS) (a1 : Int32) (Q : Int64 → MS → Prop) : Prop :=
  pw_X3_within a1 0 3 (fun r4 => (∀ M15 : MS, M15 = ms_s M 0 (if r4 = 0 then 1 else 0) → (((M15.1 0) ≤ 0 → tw_X3_ofKind M15 a1 (fun r31 M31 => tj_X3_squaresOf_34 M31 r31 Q)) ∧ (¬ (M15.1 0) ≤ 0 → tj_X3_squaresOf_34 M15 0 Q))))
theorem tk_X3_squaresOf {l : Launch} {D : va_G} {g : Nat → Nat} {cI cJ : ClassId} {sz : Nat} {M : MS} {a1 : Int32} {Q : Int64 → MS → Prop} (h : tw_X3_squaresOf M a1 Q) : tm_Met l yX3_squaresOf cX3_squaresOf 2 (some .long) rmX3_squaresOf [.int a1] D g cI cJ sz M (va_Ql Q (tm_B D g cI cJ sz) (tm_A g sz)) := by
  refine tm_entry (by decide) (Nat.le_of_ble_eq_true rfl) (fun p e s m args below meth c hsz C hK => ?_)
  subst hsz
  unfold tw_X3_squaresOf at h
  show gx_W p l e (headSpec (ws_ yX3_squaresOf cX3_squaresOf 2 (some .long)) rmX3_squaresOf).room s m args below meth c 2 (tm_I D g cI cJ s M) 0 0 (MQ below (va_Ql Q (tm_B D g cI cJ s.heap.size) (tm_A g s.heap.size)) args s 0 0 (tm_A g s.heap.size)) 0 [(0, .ref (g 0)), (1, .int a1)] []
  refine gx_aload_n C dX3_squaresOf_0 rfl 0 rfl ?_
  refine gx_iload_n C dX3_squaresOf_1 rfl 1 rfl ?_
  refine gx_iconst (v := 0) C dX3_squaresOf_2 (by decide) ?_
  refine gx_iconst (v := 3) C dX3_squaresOf_3 (by decide) ?_
  refine gx_calls_i (rest := [.ref (g 0)]) C (pk_X3_within h) (va_cwS 3 C.t (lw_S q2360 q2361 q130 q2362) rfl rfl rfl dmX3_within ⟨Nat.le_of_ble_eq_true rfl, Nat.le_of_ble_eq_true rfl⟩) rfl rfl (Nat.le_of_ble_eq_true rfl) ⟨Nat.zero_le _, Nat.zero_le _⟩ dX3_squaresOf_4 (fun r4 h => ?_)
  refine gx_phii (t := (if r4 = 0 then 1 else 0)) (pc2 := 15) (lv2 := [(0, .ref (g 0)), (1, .int a1)]) (rest2 := [.ref (g 0)]) (fun key => ?_) ?_
  · refine gx_if_eq (tgt := 14) C dX3_squaresOf_7 (by decide) (fun z1 => ?_) (fun z1 => ?_)
    · refine gx_iconst (v := 1) C dX3_squaresOf_14 (by decide) ?_
      exact gx_casti (if_pos z1) key
    · refine gx_iconst (v := 0) C dX3_squaresOf_10 (by decide) ?_
      refine gx_goto (tgt := 15) C dX3_squaresOf_11 (by decide) ?_
      exact gx_casti (if_neg z1) key
  refine tm_put0 C hK q2300 dX3_squaresOf_15 (fun M15 e_M15 => ?_)
  replace h := h M15 e_M15
  refine gx_aload_n C dX3_squaresOf_18 rfl 0 rfl ?_
  refine tm_get C hK 0 (by decide) q2300 rfl rfl dX3_squaresOf_19 ?_
  refine gx_if_le (tgt := 29) C dX3_squaresOf_22 (by decide) (fun z => ?_) (fun z => ?_)
  · replace h := h.1 z
    refine gx_aload_n C dX3_squaresOf_29 rfl 0 rfl ?_
    refine gx_iload_n C dX3_squaresOf_30 rfl 1 rfl ?_
    refine tm_calll (rest := []) C hK (fun sz => tk_X3_ofKind h) (cwV 1 C.t (lw_V q2590 q2592 qs84 q130 q2593) rfl rfl rfl ⟨rfl, dmX3_ofKind⟩ ⟨Nat.le_of_ble_eq_true rfl, Nat.le_of_ble_eq_true rfl⟩) rfl rfl (Nat.le_of_ble_eq_true rfl) dX3_squaresOf_31 (fun r31 M31 h => ?_)
    refine gx_sub [] rfl ?_
    exact tb_X3_squaresOf_34 C hK h
  · replace h := h.2 z
    refine gx_lconst (v := 0) C dX3_squaresOf_25 (by decide) ?_
    refine gx_goto (tgt := 34) C dX3_squaresOf_26 (by decide) ?_
    refine gx_sub [] rfl ?_
    exact tb_X3_squaresOf_34 C hK h
/-! volesOf(I)I -/
abbrev rmX3_volesOf : Room := { frames := 3, cells := 0, slots := 0, locals := 63 }
theorem dmX3_volesOf : yX3_volesOf.cls ≠ "java/lang/invoke/MethodHandle" ∧ yX3_volesOf.cls ≠ "java/lang/invoke/VarHandle" ∧ (parseMethodDescriptor yX3_volesOf.desc).map (fun d => d.parameters.length) = some 1 := by decide +kernel
def tj_X3_volesOf_21 (M : MS) (s0 : Int32) (Q : Int32 → MS → Prop) : Prop :=
  Q s0 M
theorem tb_X3_volesOf_21 {l : Launch} {p : Program} {e : Env} {s : State} {m : MethodId} {args : Array Value} {below : List Frame} {meth : Method} {c : Code} {D : va_G} {g : Nat → Nat} {cI cJ : ClassId} (C : gx_C p s m args meth c cX3_volesOf 2 (some .int) RX3) (hK : va_K D gcl [(cI, .int), (cJ, .long)] s) {M : MS} {s0 : Int32} {Q : Int32 → MS → Prop} (h : tj_X3_volesOf_21 M s0 Q)  : gx_W p l e (headSpec (ws_ yX3_volesOf cX3_volesOf 2 (some .int)) rmX3_volesOf).room s m args below meth c 2 (tm_I D g cI cJ s M) 0 0 (MQ below (va_Qi Q (tm_B D g cI cJ s.heap.size) (tm_A g s.heap.size)) args s 0 0 (tm_A g s.heap.size)) 21 [] [.int s0] := by
  unfold tj_X3_volesOf_21 at h
  exact tm_iret C hK h dX3_volesOf_21
def tw_X3_volesOf (M : MS) (a1 : Int32) (Q : Int32 → MS → Prop) : Prop :=
  tw_X3_asksSquare M a1 (fun r2 M2 => ((r2 = 0 → tj_X3_volesOf_21 M2 0 Q) ∧ (¬ (r2 = 0) → (vp_in (80 + a1) 754 ∧ tj_X3_volesOf_21 M2 (ms_r M2 0 (80 + a1)) Q))))
theorem tk_X3_volesOf {l : Launch} {D : va_G} {g : Nat → Nat} {cI cJ : ClassId} {sz : Nat} {M : MS} {a1 : Int32} {Q : Int32 → MS → Prop} (h : tw_X3_volesOf M a1 Q) : tm_Met l yX3_volesOf cX3_volesOf 2 (some .int) rmX3_volesOf [.int a1] D g cI cJ sz M (va_Qi Q (tm_B D g cI cJ sz) (tm_A g sz)) := by
  refine tm_entry (by decide) (Nat.le_of_ble_eq_true rfl) (fun p e s m args below meth c hsz C hK => ?_)
  subst hsz
  unfold tw_X3_volesOf at h
  show gx_W p l e (headSpec (ws_ yX3_volesOf cX3_volesOf 2 (some .int)) rmX3_volesOf).room s m args below meth c 2 (tm_I D g cI cJ s M) 0 0 (MQ below (va_Qi Q (tm_B D g cI cJ s.heap.size) (tm_A g s.heap.size)) args s 0 0 (tm_A g s.heap.size)) 0 [(0, .ref (g 0)), (1, .int a1)] []
  refine gx_aload_n C dX3_volesOf_0 rfl 0 rfl ?_
  refine gx_iload_n C dX3_volesOf_1 rfl 1 rfl ?_
  refine tm_calli (rest := []) C hK (fun sz => tk_X3_asksSquare h) (cwV 1 C.t (lw_V q2582 q2584 qs83 q130 q2585) rfl rfl rfl ⟨rfl, dmX3_asksSquare⟩ ⟨Nat.le_of_ble_eq_true rfl, Nat.le_of_ble_eq_true rfl⟩) rfl rfl (Nat.le_of_ble_eq_true rfl) dX3_volesOf_2 (fun r2 M2 h => ?_)
  refine gx_if_eq (tgt := 20) C dX3_volesOf_5 (by decide) (fun z => ?_) (fun z => ?_)
  · replace h := h.1 z
    refine gx_iconst (v := 0) C dX3_volesOf_20 (by decide) ?_
    refine gx_sub [] rfl ?_
    exact tb_X3_volesOf_21 C hK h
  · replace h := h.2 z
    refine gx_aload_n C dX3_volesOf_8 rfl 0 rfl ?_
    refine tm_get C hK 1 (by decide) q2301 rfl rfl dX3_volesOf_9 ?_
    refine gx_bipush (v := 80) C dX3_volesOf_12 (by decide) ?_
    refine gx_iload_n C dX3_volesOf_14 rfl 1 rfl ?_
    refine gx_iadd C dX3_volesOf_15 ?_
    obtain ⟨g16, h⟩ := h
    refine tm_ald0 C hK g16 dX3_volesOf_16 ?_
    refine gx_goto (tgt := 21) C dX3_volesOf_17 (by decide) ?_
    refine gx_sub [] rfl ?_
    exact tb_X3_volesOf_21 C hK h
/-! allVoles()I -/
abbrev rmX3_allVoles : Room := { frames := 0, cells := 0, slots := 0, locals := 0 }
theorem dmX3_allVoles : yX3_allVoles.cls ≠ "java/lang/invoke/MethodHandle" ∧ yX3_allVoles.cls ≠ "java/lang/invoke/VarHandle" ∧ (parseMethodDescriptor yX3_allVoles.desc).map (fun d => d.parameters.length) = some 0 := by decide +kernel
def tj_X3_allVoles_4 (M : MS) (a1 : Int32) (a2 : Int32) (k4 : MS → Int32 → Int32 → Prop) (Q : Int32 → MS → Prop) : Prop :=
  ((64 ≤ a2 → Q a1 M) ∧ (¬ (64 ≤ a2) → (vp_in (80 + a2) 754 ∧ k4 M (a1 + (ms_r M 0 (80 + a2))) (a2 + 1))))
theorem tb_X3_allVoles_4 {l : Launch} {p : Program} {e : Env} {s : State} {m : MethodId} {args : Array Value} {below : List Frame} {meth : Method} {c : Code} {D : va_G} {g : Nat → Nat} {cI cJ : ClassId} (C : gx_C p s m args meth c cX3_allVoles 3 (some .int) RX3) (hK : va_K D gcl [(cI, .int), (cJ, .long)] s) {M : MS} {a1 : Int32} {a2 : Int32} {k4 : MS → Int32 → Int32 → Prop} {Q : Int32 → MS → Prop} (h : tj_X3_allVoles_4 M a1 a2 k4 Q) (hk4 : ∀ (M : MS) (a1 : Int32) (a2 : Int32), k4 M a1 a2 → gx_W p l e (headSpec (ws_ yX3_allVoles cX3_allVoles 3 (some .int)) rmX3_allVoles).room s m args below meth c 3 (tm_I D g cI cJ s M) 0 0 (MQ below (va_Qi Q (tm_B D g cI cJ s.heap.size) (tm_A g s.heap.size)) args s 0 0 (tm_A g s.heap.size)) 4 [(0, .ref (g 0)), (1, .int a1), (2, .int a2)] []) : gx_W p l e (headSpec (ws_ yX3_allVoles cX3_allVoles 3 (some .int)) rmX3_allVoles).room s m args below meth c 3 (tm_I D g cI cJ s M) 0 0 (MQ below (va_Qi Q (tm_B D g cI cJ s.heap.size) (tm_A g s.heap.size)) args s 0 0 (tm_A g s.heap.size)) 4 [(0, .ref (g 0)), (1, .int a1), (2, .int a2)] [] := by
  unfold tj_X3_allVoles_4 at h
  refine gx_iload_n C dX3_allVoles_4 rfl 2 rfl ?_
  refine gx_bipush (v := 64) C dX3_allVoles_5 (by decide) ?_
  refine gx_icmp_ge (tgt := 28) C dX3_allVoles_7 (by decide) (fun z => ?_) (fun z => ?_)
  · replace h := h.1 z
    refine gx_iload_n C dX3_allVoles_28 rfl 1 rfl ?_
    exact tm_iret C hK h dX3_allVoles_29
  · replace h := h.2 z
    refine gx_iload_n C dX3_allVoles_10 rfl 1 rfl ?_
    refine gx_aload_n C dX3_allVoles_11 rfl 0 rfl ?_
    refine tm_get C hK 1 (by decide) q2301 rfl rfl dX3_allVoles_12 ?_
    refine gx_bipush (v := 80) C dX3_allVoles_15 (by decide) ?_
    refine gx_iload_n C dX3_allVoles_17 rfl 2 rfl ?_
    refine gx_iadd C dX3_allVoles_18 ?_
    obtain ⟨g19, h⟩ := h
    refine tm_ald0 C hK g19 dX3_allVoles_19 ?_
    refine gx_iadd C dX3_allVoles_20 ?_
    refine gx_istore_n (lv' := [(1, .int (a1 + (ms_r M 0 (80 + a2)))), (0, .ref (g 0)), (2, .int a2)]) C dX3_allVoles_21 rfl (by decide) rfl ?_
    refine gx_iinc (v := a2 + 1) (k := 2) (lv' := [(2, .int (a2 + 1)), (1, .int (a1 + (ms_r M 0 (80 + a2)))), (0, .ref (g 0))]) C dX3_allVoles_22 rfl rfl (by decide) rfl ?_
    refine gx_goto (tgt := 4) C dX3_allVoles_25 (by decide) ?_
    refine gx_sub [2, 1, 0] rfl ?_
    exact hk4 M (a1 + (ms_r M 0 (80 + a2))) (a2 + 1) h
def tl_X3_allVoles_4 (Q : Int32 → MS → Prop) : Nat → MS → Int32 → Int32 → Prop
  | 0, _, _, _ => False
  | n + 1, M, a1, a2 => tj_X3_allVoles_4 M a1 a2 (fun M a1 a2 => tl_X3_allVoles_4 Q n M a1 a2) Q
theorem te_X3_allVoles_4 {l : Launch} {p : Program} {e : Env} {s : State} {m : MethodId} {args : Array Value} {below : List Frame} {meth : Method} {c : Code} {D : va_G} {g : Nat → Nat} {cI cJ : ClassId} (C : gx_C p s m args meth c cX3_allVoles 3 (some .int) RX3) (hK : va_K D gcl [(cI, .int), (cJ, .long)] s) {Q : Int32 → MS → Prop}  (n : Nat) : ∀ (M : MS) (a1 : Int32) (a2 : Int32), tl_X3_allVoles_4 Q n M a1 a2 → gx_W p l e (headSpec (ws_ yX3_allVoles cX3_allVoles 3 (some .int)) rmX3_allVoles).room s m args below meth c 3 (tm_I D g cI cJ s M) 0 0 (MQ below (va_Qi Q (tm_B D g cI cJ s.heap.size) (tm_A g s.heap.size)) args s 0 0 (tm_A g s.heap.size)) 4 [(0, .ref (g 0)), (1, .int a1), (2, .int a2)] [] := by
  induction n with
  | zero => intro M a1 a2 h; exact False.elim h
  | succ n ih => intro M a1 a2 h; exact tb_X3_allVoles_4 C hK (show tj_X3_allVoles_4 M a1 a2 (fun M a1 a2 => tl_X3_allVoles_4 Q n M a1 a2) Q from h) (fun M a1 a2 h => ih M a1 a2 h)
def tw_X3_allVoles (M : MS) (Q : Int32 → MS → Prop) : Prop :=
  ∃ n : Nat, tl_X3_allVoles_4 Q n M 0 0
theorem tk_X3_allVoles {l : Launch} {D : va_G} {g : Nat → Nat} {cI cJ : ClassId} {sz : Nat} {M : MS} {Q : Int32 → MS → Prop} (h : tw_X3_allVoles M Q) : tm_Met l yX3_allVoles cX3_allVoles 3 (some .int) rmX3_allVoles [] D g cI cJ sz M (va_Qi Q (tm_B D g cI cJ sz) (tm_A g sz)) := by
  refine tm_entry (by decide) (Nat.le_of_ble_eq_true rfl) (fun p e s m args below meth c hsz C hK => ?_)
  subst hsz
  unfold tw_X3_allVoles at h
  show gx_W p l e (headSpec (ws_ yX3_allVoles cX3_allVoles 3 (some .int)) rmX3_allVoles).room s m args below meth c 3 (tm_I D g cI cJ s M) 0 0 (MQ below (va_Qi Q (tm_B D g cI cJ s.heap.size) (tm_A g s.heap.size)) args s 0 0 (tm_A g s.heap.size)) 0 [(0, .ref (g 0))] []
  refine gx_iconst (v := 0) C dX3_allVoles_0 (by decide) ?_
  refine gx_istore_n (lv' := [(1, .int 0), (0, .ref (g 0))]) C dX3_allVoles_1 rfl (by decide) rfl ?_
  refine gx_iconst (v := 0) C dX3_allVoles_2 (by decide) ?_
  refine gx_istore_n (lv' := [(2, .int 0), (1, .int 0), (0, .ref (g 0))]) C dX3_allVoles_3 rfl (by decide) rfl ?_
  refine gx_sub [2, 1, 0] rfl ?_
  obtain ⟨n, h⟩ := h
  exact te_X3_allVoles_4 C hK n M 0 0 h
/-! voles()I -/
abbrev rmX3_voles : Room := { frames := 1, cells := 0, slots := 0, locals := 22 }
theorem dmX3_voles : yX3_voles.cls ≠ "java/lang/invoke/MethodHandle" ∧ yX3_voles.cls ≠ "java/lang/invoke/VarHandle" ∧ (parseMethodDescriptor yX3_voles.desc).map (fun d => d.parameters.length) = some 0 := by decide +kernel
def tw_X3_voles (M : MS) (Q : Int32 → MS → Prop) : Prop :=
  tw_X3_allVoles M (fun r2 M2 => tw_X3_tells M2 r2 (fun r5 M5 => Q r5 M5))
theorem tk_X3_voles {l : Launch} {D : va_G} {g : Nat → Nat} {cI cJ : ClassId} {sz : Nat} {M : MS} {Q : Int32 → MS → Prop} (h : tw_X3_voles M Q) : tm_Met l yX3_voles cX3_voles 1 (some .int) rmX3_voles [] D g cI cJ sz M (va_Qi Q (tm_B D g cI cJ sz) (tm_A g sz)) := by
  refine tm_entry (by decide) (Nat.le_of_ble_eq_true rfl) (fun p e s m args below meth c hsz C hK => ?_)
  subst hsz
  unfold tw_X3_voles at h
  show gx_W p l e (headSpec (ws_ yX3_voles cX3_voles 1 (some .int)) rmX3_voles).room s m args below meth c 1 (tm_I D g cI cJ s M) 0 0 (MQ below (va_Qi Q (tm_B D g cI cJ s.heap.size) (tm_A g s.heap.size)) args s 0 0 (tm_A g s.heap.size)) 0 [(0, .ref (g 0))] []
  refine gx_aload_n C dX3_voles_0 rfl 0 rfl ?_
  refine gx_aload_n C dX3_voles_1 rfl 0 rfl ?_
  refine tm_calli (rest := [.ref (g 0)]) C hK (fun sz => tk_X3_allVoles h) (cwV 0 C.t (lw_V q2602 q2604 qs85 q130 q2605) rfl rfl rfl ⟨rfl, dmX3_allVoles⟩ ⟨Nat.le_of_ble_eq_true rfl, Nat.le_of_ble_eq_true rfl⟩) rfl rfl (Nat.le_of_ble_eq_true rfl) dX3_voles_2 (fun r2 M2 h => ?_)
  refine tm_calli (rest := []) C hK (fun sz => tk_X3_tells h) (cwV 1 C.t (lw_V q2570 q2572 qs82 q130 q2573) rfl rfl rfl ⟨rfl, dmX3_tells⟩ ⟨Nat.le_of_ble_eq_true rfl, Nat.le_of_ble_eq_true rfl⟩) rfl rfl (Nat.le_of_ble_eq_true rfl) dX3_voles_5 (fun r5 M5 h => ?_)
  exact tm_iret C hK h dX3_voles_8
/-! volesNext(I)I -/
abbrev rmX3_volesNext : Room := { frames := 3, cells := 0, slots := 0, locals := 63 }
theorem dmX3_volesNext : yX3_volesNext.cls ≠ "java/lang/invoke/MethodHandle" ∧ yX3_volesNext.cls ≠ "java/lang/invoke/VarHandle" ∧ (parseMethodDescriptor yX3_volesNext.desc).map (fun d => d.parameters.length) = some 1 := by decide +kernel
def tj_X3_volesNext_17 (M : MS) (s0 : Int32) (Q : Int32 → MS → Prop) : Prop :=
  Q s0 M
theorem tb_X3_volesNext_17 {l : Launch} {p : Program} {e : Env} {s : State} {m : MethodId} {args : Array Value} {below : List Frame} {meth : Method} {c : Code} {D : va_G} {g : Nat → Nat} {cI cJ : ClassId} (C : gx_C p s m args meth c cX3_volesNext 2 (some .int) RX3) (hK : va_K D gcl [(cI, .int), (cJ, .long)] s) {M : MS} {s0 : Int32} {Q : Int32 → MS → Prop} (h : tj_X3_volesNext_17 M s0 Q)  : gx_W p l e (headSpec (ws_ yX3_volesNext cX3_volesNext 2 (some .int)) rmX3_volesNext).room s m args below meth c 2 (tm_I D g cI cJ s M) 0 0 (MQ below (va_Qi Q (tm_B D g cI cJ s.heap.size) (tm_A g s.heap.size)) args s 0 0 (tm_A g s.heap.size)) 17 [] [.int s0] := by
  unfold tj_X3_volesNext_17 at h
  exact tm_iret C hK h dX3_volesNext_17
def tw_X3_volesNext (M : MS) (a1 : Int32) (Q : Int32 → MS → Prop) : Prop :=
  tw_X3_asksSquare M a1 (fun r2 M2 => ((r2 = 0 → tj_X3_volesNext_17 M2 0 Q) ∧ (¬ (r2 = 0) → tw_X3_next M2 a1 (fun r10 M10 => tj_X3_volesNext_17 M10 r10 Q))))
theorem tk_X3_volesNext {l : Launch} {D : va_G} {g : Nat → Nat} {cI cJ : ClassId} {sz : Nat} {M : MS} {a1 : Int32} {Q : Int32 → MS → Prop} (h : tw_X3_volesNext M a1 Q) : tm_Met l yX3_volesNext cX3_volesNext 2 (some .int) rmX3_volesNext [.int a1] D g cI cJ sz M (va_Qi Q (tm_B D g cI cJ sz) (tm_A g sz)) := by
  refine tm_entry (by decide) (Nat.le_of_ble_eq_true rfl) (fun p e s m args below meth c hsz C hK => ?_)
  subst hsz
  unfold tw_X3_volesNext at h
  show gx_W p l e (headSpec (ws_ yX3_volesNext cX3_volesNext 2 (some .int)) rmX3_volesNext).room s m args below meth c 2 (tm_I D g cI cJ s M) 0 0 (MQ below (va_Qi Q (tm_B D g cI cJ s.heap.size) (tm_A g s.heap.size)) args s 0 0 (tm_A g s.heap.size)) 0 [(0, .ref (g 0)), (1, .int a1)] []
  refine gx_aload_n C dX3_volesNext_0 rfl 0 rfl ?_
  refine gx_iload_n C dX3_volesNext_1 rfl 1 rfl ?_
  refine tm_calli (rest := []) C hK (fun sz => tk_X3_asksSquare h) (cwV 1 C.t (lw_V q2582 q2584 qs83 q130 q2585) rfl rfl rfl ⟨rfl, dmX3_asksSquare⟩ ⟨Nat.le_of_ble_eq_true rfl, Nat.le_of_ble_eq_true rfl⟩) rfl rfl (Nat.le_of_ble_eq_true rfl) dX3_volesNext_2 (fun r2 M2 h => ?_)
  refine gx_if_eq (tgt := 16) C dX3_volesNext_5 (by decide) (fun z => ?_) (fun z => ?_)
  · replace h := h.1 z
    refine gx_iconst (v := 0) C dX3_volesNext_16 (by decide) ?_
    refine gx_sub [] rfl ?_
    exact tb_X3_volesNext_17 C hK h
  · replace h := h.2 z
    refine gx_aload_n C dX3_volesNext_8 rfl 0 rfl ?_
    refine gx_iload_n C dX3_volesNext_9 rfl 1 rfl ?_
    refine tm_calli (rest := []) C hK (fun sz => tk_X3_next h) (cwV 1 C.t (lw_V q2509 q2511 qs68 q130 q2512) rfl rfl rfl ⟨rfl, dmX3_next⟩ ⟨Nat.le_of_ble_eq_true rfl, Nat.le_of_ble_eq_true rfl⟩) rfl rfl (Nat.le_of_ble_eq_true rfl) dX3_volesNext_10 (fun r10 M10 h => ?_)
    refine gx_goto (tgt := 17) C dX3_volesNext_13 (by decide) ?_
    refine gx_sub [] rfl ?_
    exact tb_X3_volesNext_17 C hK h
/-! distance(II)I -/
abbrev rmX3_distance : Room := { frames := 2, cells := 0, slots := 0, locals := 43 }
theorem dmX3_distance : yX3_distance.cls ≠ "java/lang/invoke/MethodHandle" ∧ yX3_distance.cls ≠ "java/lang/invoke/VarHandle" ∧ (parseMethodDescriptor yX3_distance.desc).map (fun d => d.parameters.length) = some 2 := by decide +kernel
def tj_X3_distance_39 (M : MS) (s0 : Int32) (Q : Int32 → MS → Prop) : Prop :=
  Q s0 M
theorem tb_X3_distance_39 {l : Launch} {p : Program} {e : Env} {s : State} {m : MethodId} {args : Array Value} {below : List Frame} {meth : Method} {c : Code} {D : va_G} {g : Nat → Nat} {cI cJ : ClassId} (C : gx_C p s m args meth c cX3_distance 3 (some .int) RX3) (hK : va_K D gcl [(cI, .int), (cJ, .long)] s) {M : MS} {s0 : Int32} {Q : Int32 → MS → Prop} (h : tj_X3_distance_39 M s0 Q)  : gx_W p l e (headSpec (ws_ yX3_distance cX3_distance 3 (some .int)) rmX3_distance).room s m args below meth c 3 (tm_I D g cI cJ s M) 0 0 (MQ below (va_Qi Q (tm_B D g cI cJ s.heap.size) (tm_A g s.heap.size)) args s 0 0 (tm_A g s.heap.size)) 39 [] [.int s0] := by
  unfold tj_X3_distance_39 at h
  exact tm_iret C hK h dX3_distance_39
def tj_X3_distance_20 (M : MS) (a1 : Int32) (a2 : Int32) (s1 : Int32) (Q : Int32 → MS → Prop) : Prop :=
  (∀ M20 : MS, M20 = ms_s M 0 s1 → (((M20.1 0) ≤ 0 → pw_X3_far a1 a2 (fun r36 => tj_X3_distance_39 M20 r36 Q)) ∧ (¬ (M20.1 0) ≤ 0 → tj_X3_distance_39 M20 0 Q)))
theorem tb_X3_distance_20 {l : Launch} {p : Program} {e : Env} {s : State} {m : MethodId} {args : Array Value} {below : List Frame} {meth : Method} {c : Code} {D : va_G} {g : Nat → Nat} {cI cJ : ClassId} (C : gx_C p s m args meth c cX3_distance 3 (some .int) RX3) (hK : va_K D gcl [(cI, .int), (cJ, .long)] s) {M : MS} {a1 : Int32} {a2 : Int32} {s1 : Int32} {Q : Int32 → MS → Prop} (h : tj_X3_distance_20 M a1 a2 s1 Q)  : gx_W p l e (headSpec (ws_ yX3_distance cX3_distance 3 (some .int)) rmX3_distance).room s m args below meth c 3 (tm_I D g cI cJ s M) 0 0 (MQ below (va_Qi Q (tm_B D g cI cJ s.heap.size) (tm_A g s.heap.size)) args s 0 0 (tm_A g s.heap.size)) 20 [(0, .ref (g 0)), (1, .int a1), (2, .int a2)] [.int s1, .ref (g 0)] := by
  unfold tj_X3_distance_20 at h
  refine tm_put0 C hK q2300 dX3_distance_20 (fun M20 e_M20 => ?_)
  replace h := h M20 e_M20
  refine gx_aload_n C dX3_distance_23 rfl 0 rfl ?_
  refine tm_get C hK 0 (by decide) q2300 rfl rfl dX3_distance_24 ?_
  refine gx_if_le (tgt := 34) C dX3_distance_27 (by decide) (fun z => ?_) (fun z => ?_)
  · replace h := h.1 z
    refine gx_iload_n C dX3_distance_34 rfl 1 rfl ?_
    refine gx_iload_n C dX3_distance_35 rfl 2 rfl ?_
    refine gx_calls_i (rest := []) C (pk_X3_far h) (va_cwS 2 C.t (lw_S q2500 q2501 q130 q2502) rfl rfl rfl dmX3_far ⟨Nat.le_of_ble_eq_true rfl, Nat.le_of_ble_eq_true rfl⟩) rfl rfl (Nat.le_of_ble_eq_true rfl) ⟨Nat.zero_le _, Nat.zero_le _⟩ dX3_distance_36 (fun r36 h => ?_)
    refine gx_sub [] rfl ?_
    exact tb_X3_distance_39 C hK h
  · replace h := h.2 z
    refine gx_iconst (v := 0) C dX3_distance_30 (by decide) ?_
    refine gx_goto (tgt := 39) C dX3_distance_31 (by decide) ?_
    refine gx_sub [] rfl ?_
    exact tb_X3_distance_39 C hK h
def tj_X3_distance_19 (M : MS) (a1 : Int32) (a2 : Int32) (Q : Int32 → MS → Prop) : Prop :=
  tj_X3_distance_20 M a1 a2 1 Q
theorem tb_X3_distance_19 {l : Launch} {p : Program} {e : Env} {s : State} {m : MethodId} {args : Array Value} {below : List Frame} {meth : Method} {c : Code} {D : va_G} {g : Nat → Nat} {cI cJ : ClassId} (C : gx_C p s m args meth c cX3_distance 3 (some .int) RX3) (hK : va_K D gcl [(cI, .int), (cJ, .long)] s) {M : MS} {a1 : Int32} {a2 : Int32} {Q : Int32 → MS → Prop} (h : tj_X3_distance_19 M a1 a2 Q)  : gx_W p l e (headSpec (ws_ yX3_distance cX3_distance 3 (some .int)) rmX3_distance).room s m args below meth c 3 (tm_I D g cI cJ s M) 0 0 (MQ below (va_Qi Q (tm_B D g cI cJ s.heap.size) (tm_A g s.heap.size)) args s 0 0 (tm_A g s.heap.size)) 19 [(0, .ref (g 0)), (1, .int a1), (2, .int a2)] [.ref (g 0)] := by
  unfold tj_X3_distance_19 at h
  refine gx_iconst (v := 1) C dX3_distance_19 (by decide) ?_
  exact tb_X3_distance_20 C hK h
def tw_X3_distance (M : MS) (a1 : Int32) (a2 : Int32) (Q : Int32 → MS → Prop) : Prop :=
  pw_X3_isSquare a1 (fun r2 => ((r2 = 0 → tj_X3_distance_19 M a1 a2 Q) ∧ (¬ (r2 = 0) → pw_X3_isSquare a2 (fun r9 => ((r9 = 0 → tj_X3_distance_19 M a1 a2 Q) ∧ (¬ (r9 = 0) → tj_X3_distance_20 M a1 a2 0 Q))))))
theorem tk_X3_distance {l : Launch} {D : va_G} {g : Nat → Nat} {cI cJ : ClassId} {sz : Nat} {M : MS} {a1 : Int32} {a2 : Int32} {Q : Int32 → MS → Prop} (h : tw_X3_distance M a1 a2 Q) : tm_Met l yX3_distance cX3_distance 3 (some .int) rmX3_distance [.int a1, .int a2] D g cI cJ sz M (va_Qi Q (tm_B D g cI cJ sz) (tm_A g sz)) := by
  refine tm_entry (by decide) (Nat.le_of_ble_eq_true rfl) (fun p e s m args below meth c hsz C hK => ?_)
  subst hsz
  unfold tw_X3_distance at h
  show gx_W p l e (headSpec (ws_ yX3_distance cX3_distance 3 (some .int)) rmX3_distance).room s m args below meth c 3 (tm_I D g cI cJ s M) 0 0 (MQ below (va_Qi Q (tm_B D g cI cJ s.heap.size) (tm_A g s.heap.size)) args s 0 0 (tm_A g s.heap.size)) 0 [(0, .ref (g 0)), (1, .int a1), (2, .int a2)] []
  refine gx_aload_n C dX3_distance_0 rfl 0 rfl ?_
  refine gx_iload_n C dX3_distance_1 rfl 1 rfl ?_
  refine gx_calls_i (rest := [.ref (g 0)]) C (pk_X3_isSquare h) (va_cwS 1 C.t (lw_S q2357 q2358 q130 q2359) rfl rfl rfl dmX3_isSquare ⟨Nat.le_of_ble_eq_true rfl, Nat.le_of_ble_eq_true rfl⟩) rfl rfl (Nat.le_of_ble_eq_true rfl) ⟨Nat.zero_le _, Nat.zero_le _⟩ dX3_distance_2 (fun r2 h => ?_)
  refine gx_if_eq (tgt := 19) C dX3_distance_5 (by decide) (fun z => ?_) (fun z => ?_)
  · replace h := h.1 z
    exact tb_X3_distance_19 C hK h
  · replace h := h.2 z
    refine gx_iload_n C dX3_distance_8 rfl 2 rfl ?_
    refine gx_calls_i (rest := [.ref (g 0)]) C (pk_X3_isSquare h) (va_cwS 1 C.t (lw_S q2357 q2358 q130 q2359) rfl rfl rfl dmX3_isSquare ⟨Nat.le_of_ble_eq_true rfl, Nat.le_of_ble_eq_true rfl⟩) rfl rfl (Nat.le_of_ble_eq_true rfl) ⟨Nat.zero_le _, Nat.zero_le _⟩ dX3_distance_9 (fun r9 h => ?_)
    refine gx_if_eq (tgt := 19) C dX3_distance_12 (by decide) (fun z => ?_) (fun z => ?_)
    · replace h := h.1 z
      exact tb_X3_distance_19 C hK h
    · replace h := h.2 z
      refine gx_iconst (v := 0) C dX3_distance_15 (by decide) ?_
      refine gx_goto (tgt := 20) C dX3_distance_16 (by decide) ?_
      exact tb_X3_distance_20 C hK h
/-! chances()I -/
abbrev rmX3_chances : Room := { frames := 1, cells := 0, slots := 0, locals := 21 }
theorem dmX3_chances : yX3_chances.cls ≠ "java/lang/invoke/MethodHandle" ∧ yX3_chances.cls ≠ "java/lang/invoke/VarHandle" ∧ (parseMethodDescriptor yX3_chances.desc).map (fun d => d.parameters.length) = some 0 := by decide +kernel
def tw_X3_chances (M : MS) (Q : Int32 → MS → Prop) : Prop :=
  (vp_in 1 754 ∧ tw_X3_tells M (ms_r M 0 1) (fun r7 M7 => Q r7 M7))
theorem tk_X3_chances {l : Launch} {D : va_G} {g : Nat → Nat} {cI cJ : ClassId} {sz : Nat} {M : MS} {Q : Int32 → MS → Prop} (h : tw_X3_chances M Q) : tm_Met l yX3_chances cX3_chances 1 (some .int) rmX3_chances [] D g cI cJ sz M (va_Qi Q (tm_B D g cI cJ sz) (tm_A g sz)) := by
  refine tm_entry (by decide) (Nat.le_of_ble_eq_true rfl) (fun p e s m args below meth c hsz C hK => ?_)
  subst hsz
  unfold tw_X3_chances at h
  show gx_W p l e (headSpec (ws_ yX3_chances cX3_chances 1 (some .int)) rmX3_chances).room s m args below meth c 1 (tm_I D g cI cJ s M) 0 0 (MQ below (va_Qi Q (tm_B D g cI cJ s.heap.size) (tm_A g s.heap.size)) args s 0 0 (tm_A g s.heap.size)) 0 [(0, .ref (g 0))] []
  refine gx_aload_n C dX3_chances_0 rfl 0 rfl ?_
  refine gx_aload_n C dX3_chances_1 rfl 0 rfl ?_
  refine tm_get C hK 1 (by decide) q2301 rfl rfl dX3_chances_2 ?_
  refine gx_iconst (v := 1) C dX3_chances_5 (by decide) ?_
  obtain ⟨g6, h⟩ := h
  refine tm_ald0 C hK g6 dX3_chances_6 ?_
  refine tm_calli (rest := []) C hK (fun sz => tk_X3_tells h) (cwV 1 C.t (lw_V q2570 q2572 qs82 q130 q2573) rfl rfl rfl ⟨rfl, dmX3_tells⟩ ⟨Nat.le_of_ble_eq_true rfl, Nat.le_of_ble_eq_true rfl⟩) rfl rfl (Nat.le_of_ble_eq_true rfl) dX3_chances_7 (fun r7 M7 h => ?_)
  exact tm_iret C hK h dX3_chances_10
/-! boxes()I -/
abbrev rmX3_boxes : Room := { frames := 1, cells := 0, slots := 0, locals := 21 }
theorem dmX3_boxes : yX3_boxes.cls ≠ "java/lang/invoke/MethodHandle" ∧ yX3_boxes.cls ≠ "java/lang/invoke/VarHandle" ∧ (parseMethodDescriptor yX3_boxes.desc).map (fun d => d.parameters.length) = some 0 := by decide +kernel
def tw_X3_boxes (M : MS) (Q : Int32 → MS → Prop) : Prop :=
  (vp_in 2 754 ∧ tw_X3_tells M (ms_r M 0 2) (fun r7 M7 => Q r7 M7))
theorem tk_X3_boxes {l : Launch} {D : va_G} {g : Nat → Nat} {cI cJ : ClassId} {sz : Nat} {M : MS} {Q : Int32 → MS → Prop} (h : tw_X3_boxes M Q) : tm_Met l yX3_boxes cX3_boxes 1 (some .int) rmX3_boxes [] D g cI cJ sz M (va_Qi Q (tm_B D g cI cJ sz) (tm_A g sz)) := by
  refine tm_entry (by decide) (Nat.le_of_ble_eq_true rfl) (fun p e s m args below meth c hsz C hK => ?_)
  subst hsz
  unfold tw_X3_boxes at h
  show gx_W p l e (headSpec (ws_ yX3_boxes cX3_boxes 1 (some .int)) rmX3_boxes).room s m args below meth c 1 (tm_I D g cI cJ s M) 0 0 (MQ below (va_Qi Q (tm_B D g cI cJ s.heap.size) (tm_A g s.heap.size)) args s 0 0 (tm_A g s.heap.size)) 0 [(0, .ref (g 0))] []
  refine gx_aload_n C dX3_boxes_0 rfl 0 rfl ?_
  refine gx_aload_n C dX3_boxes_1 rfl 0 rfl ?_
  refine tm_get C hK 1 (by decide) q2301 rfl rfl dX3_boxes_2 ?_
  refine gx_iconst (v := 2) C dX3_boxes_5 (by decide) ?_
  obtain ⟨g6, h⟩ := h
  refine tm_ald0 C hK g6 dX3_boxes_6 ?_
  refine tm_calli (rest := []) C hK (fun sz => tk_X3_tells h) (cwV 1 C.t (lw_V q2570 q2572 qs82 q130 q2573) rfl rfl rfl ⟨rfl, dmX3_tells⟩ ⟨Nat.le_of_ble_eq_true rfl, Nat.le_of_ble_eq_true rfl⟩) rfl rfl (Nat.le_of_ble_eq_true rfl) dX3_boxes_7 (fun r7 M7 h => ?_)
  exact tm_iret C hK h dX3_boxes_10
/-! squareOf(I)I -/
abbrev rmX3_squareOf : Room := { frames := 3, cells := 0, slots := 0, locals := 64 }
theorem dmX3_squareOf : yX3_squareOf.cls ≠ "java/lang/invoke/MethodHandle" ∧ yX3_squareOf.cls ≠ "java/lang/invoke/VarHandle" ∧ (parseMethodDescriptor yX3_squareOf.desc).map (fun d => d.parameters.length) = some 1 := by decide +kernel
def tj_X3_squareOf_22 (M : MS) (s0 : Int32) (Q : Int32 → MS → Prop) : Prop :=
  Q s0 M
theorem tb_X3_squareOf_22 {l : Launch} {p : Program} {e : Env} {s : State} {m : MethodId} {args : Array Value} {below : List Frame} {meth : Method} {c : Code} {D : va_G} {g : Nat → Nat} {cI cJ : ClassId} (C : gx_C p s m args meth c cX3_squareOf 2 (some .int) RX3) (hK : va_K D gcl [(cI, .int), (cJ, .long)] s) {M : MS} {s0 : Int32} {Q : Int32 → MS → Prop} (h : tj_X3_squareOf_22 M s0 Q)  : gx_W p l e (headSpec (ws_ yX3_squareOf cX3_squareOf 2 (some .int)) rmX3_squareOf).room s m args below meth c 2 (tm_I D g cI cJ s M) 0 0 (MQ below (va_Qi Q (tm_B D g cI cJ s.heap.size) (tm_A g s.heap.size)) args s 0 0 (tm_A g s.heap.size)) 22 [] [.int s0] := by
  unfold tj_X3_squareOf_22 at h
  exact tm_iret C hK h dX3_squareOf_22
def tw_X3_squareOf (M : MS) (a1 : Int32) (Q : Int32 → MS → Prop) : Prop :=
  tw_X3_asksBox M a1 (fun r2 M2 => ((r2 = 0 → tj_X3_squareOf_22 M2 0 Q) ∧ (¬ (r2 = 0) → (vp_in (144 + a1) 754 ∧ tj_X3_squareOf_22 M2 (ms_r M2 0 (144 + a1)) Q))))
theorem tk_X3_squareOf {l : Launch} {D : va_G} {g : Nat → Nat} {cI cJ : ClassId} {sz : Nat} {M : MS} {a1 : Int32} {Q : Int32 → MS → Prop} (h : tw_X3_squareOf M a1 Q) : tm_Met l yX3_squareOf cX3_squareOf 2 (some .int) rmX3_squareOf [.int a1] D g cI cJ sz M (va_Qi Q (tm_B D g cI cJ sz) (tm_A g sz)) := by
  refine tm_entry (by decide) (Nat.le_of_ble_eq_true rfl) (fun p e s m args below meth c hsz C hK => ?_)
  subst hsz
  unfold tw_X3_squareOf at h
  show gx_W p l e (headSpec (ws_ yX3_squareOf cX3_squareOf 2 (some .int)) rmX3_squareOf).room s m args below meth c 2 (tm_I D g cI cJ s M) 0 0 (MQ below (va_Qi Q (tm_B D g cI cJ s.heap.size) (tm_A g s.heap.size)) args s 0 0 (tm_A g s.heap.size)) 0 [(0, .ref (g 0)), (1, .int a1)] []
  refine gx_aload_n C dX3_squareOf_0 rfl 0 rfl ?_
  refine gx_iload_n C dX3_squareOf_1 rfl 1 rfl ?_
  refine tm_calli (rest := []) C hK (fun sz => tk_X3_asksBox h) (cwV 1 C.t (lw_V q2419 q2421 qs53 q130 q2422) rfl rfl rfl ⟨rfl, dmX3_asksBox⟩ ⟨Nat.le_of_ble_eq_true rfl, Nat.le_of_ble_eq_true rfl⟩) rfl rfl (Nat.le_of_ble_eq_true rfl) dX3_squareOf_2 (fun r2 M2 h => ?_)
  refine gx_if_eq (tgt := 21) C dX3_squareOf_5 (by decide) (fun z => ?_) (fun z => ?_)
  · replace h := h.1 z
    refine gx_iconst (v := 0) C dX3_squareOf_21 (by decide) ?_
    refine gx_sub [] rfl ?_
    exact tb_X3_squareOf_22 C hK h
  · replace h := h.2 z
    refine gx_aload_n C dX3_squareOf_8 rfl 0 rfl ?_
    refine tm_get C hK 1 (by decide) q2301 rfl rfl dX3_squareOf_9 ?_
    refine gx_sipush (v := 144) C dX3_squareOf_12 (by decide) ?_
    refine gx_iload_n C dX3_squareOf_15 rfl 1 rfl ?_
    refine gx_iadd C dX3_squareOf_16 ?_
    obtain ⟨g17, h⟩ := h
    refine tm_ald0 C hK g17 dX3_squareOf_17 ?_
    refine gx_goto (tgt := 22) C dX3_squareOf_18 (by decide) ?_
    refine gx_sub [] rfl ?_
    exact tb_X3_squareOf_22 C hK h
/-! rangeOf(I)J -/
abbrev rmX3_rangeOf : Room := { frames := 3, cells := 0, slots := 0, locals := 71 }
theorem dmX3_rangeOf : yX3_rangeOf.cls ≠ "java/lang/invoke/MethodHandle" ∧ yX3_rangeOf.cls ≠ "java/lang/invoke/VarHandle" ∧ (parseMethodDescriptor yX3_rangeOf.desc).map (fun d => d.parameters.length) = some 1 := by decide +kernel
def tj_X3_rangeOf_26 (M : MS) (s0 : Int64) (Q : Int64 → MS → Prop) : Prop :=
  Q s0 M
theorem tb_X3_rangeOf_26 {l : Launch} {p : Program} {e : Env} {s : State} {m : MethodId} {args : Array Value} {below : List Frame} {meth : Method} {c : Code} {D : va_G} {g : Nat → Nat} {cI cJ : ClassId} (C : gx_C p s m args meth c cX3_rangeOf 2 (some .long) RX3) (hK : va_K D gcl [(cI, .int), (cJ, .long)] s) {M : MS} {s0 : Int64} {Q : Int64 → MS → Prop} (h : tj_X3_rangeOf_26 M s0 Q)  : gx_W p l e (headSpec (ws_ yX3_rangeOf cX3_rangeOf 2 (some .long)) rmX3_rangeOf).room s m args below meth c 2 (tm_I D g cI cJ s M) 0 0 (MQ below (va_Ql Q (tm_B D g cI cJ s.heap.size) (tm_A g s.heap.size)) args s 0 0 (tm_A g s.heap.size)) 26 [] [.long s0] := by
  unfold tj_X3_rangeOf_26 at h
  exact tm_lret C hK h dX3_rangeOf_26
def tw_X3_rangeOf (M : MS) (a1 : Int32) (Q : Int64 → MS → Prop) : Prop :=
  tw_X3_asksBox M a1 (fun r2 M2 => ((r2 = 0 → tj_X3_rangeOf_26 M2 0 Q) ∧ (¬ (r2 = 0) → (vp_in (144 + a1) 754 ∧ tw_X3_rangeFrom M2 (ms_r M2 0 (144 + a1)) (fun r19 M19 => tj_X3_rangeOf_26 M19 r19 Q)))))
theorem tk_X3_rangeOf {l : Launch} {D : va_G} {g : Nat → Nat} {cI cJ : ClassId} {sz : Nat} {M : MS} {a1 : Int32} {Q : Int64 → MS → Prop} (h : tw_X3_rangeOf M a1 Q) : tm_Met l yX3_rangeOf cX3_rangeOf 2 (some .long) rmX3_rangeOf [.int a1] D g cI cJ sz M (va_Ql Q (tm_B D g cI cJ sz) (tm_A g sz)) := by
  refine tm_entry (by decide) (Nat.le_of_ble_eq_true rfl) (fun p e s m args below meth c hsz C hK => ?_)
  subst hsz
  unfold tw_X3_rangeOf at h
  show gx_W p l e (headSpec (ws_ yX3_rangeOf cX3_rangeOf 2 (some .long)) rmX3_rangeOf).room s m args below meth c 2 (tm_I D g cI cJ s M) 0 0 (MQ below (va_Ql Q (tm_B D g cI cJ s.heap.size) (tm_A g s.heap.size)) args s 0 0 (tm_A g s.heap.size)) 0 [(0, .ref (g 0)), (1, .int a1)] []
  refine gx_aload_n C dX3_rangeOf_0 rfl 0 rfl ?_
  refine gx_iload_n C dX3_rangeOf_1 rfl 1 rfl ?_
  refine tm_calli (rest := []) C hK (fun sz => tk_X3_asksBox h) (cwV 1 C.t (lw_V q2419 q2421 qs53 q130 q2422) rfl rfl rfl ⟨rfl, dmX3_asksBox⟩ ⟨Nat.le_of_ble_eq_true rfl, Nat.le_of_ble_eq_true rfl⟩) rfl rfl (Nat.le_of_ble_eq_true rfl) dX3_rangeOf_2 (fun r2 M2 h => ?_)
  refine gx_if_eq (tgt := 25) C dX3_rangeOf_5 (by decide) (fun z => ?_) (fun z => ?_)
  · replace h := h.1 z
    refine gx_lconst (v := 0) C dX3_rangeOf_25 (by decide) ?_
    refine gx_sub [] rfl ?_
    exact tb_X3_rangeOf_26 C hK h
  · replace h := h.2 z
    refine gx_aload_n C dX3_rangeOf_8 rfl 0 rfl ?_
    refine gx_aload_n C dX3_rangeOf_9 rfl 0 rfl ?_
    refine tm_get C hK 1 (by decide) q2301 rfl rfl dX3_rangeOf_10 ?_
    refine gx_sipush (v := 144) C dX3_rangeOf_13 (by decide) ?_
    refine gx_iload_n C dX3_rangeOf_16 rfl 1 rfl ?_
    refine gx_iadd C dX3_rangeOf_17 ?_
    obtain ⟨g18, h⟩ := h
    refine tm_ald0 C hK g18 dX3_rangeOf_18 ?_
    refine tm_calll (rest := []) C hK (fun sz => tk_X3_rangeFrom h) (cwV 1 C.t (lw_V q2493 q2495 qs67 q130 q2496) rfl rfl rfl ⟨rfl, dmX3_rangeFrom⟩ ⟨Nat.le_of_ble_eq_true rfl, Nat.le_of_ble_eq_true rfl⟩) rfl rfl (Nat.le_of_ble_eq_true rfl) dX3_rangeOf_19 (fun r19 M19 h => ?_)
    refine gx_goto (tgt := 26) C dX3_rangeOf_22 (by decide) ?_
    refine gx_sub [] rfl ?_
    exact tb_X3_rangeOf_26 C hK h
/-! rangeByJoining(I)J -/
abbrev rmX3_rangeByJoining : Room := { frames := 3, cells := 0, slots := 0, locals := 71 }
theorem dmX3_rangeByJoining : yX3_rangeByJoining.cls ≠ "java/lang/invoke/MethodHandle" ∧ yX3_rangeByJoining.cls ≠ "java/lang/invoke/VarHandle" ∧ (parseMethodDescriptor yX3_rangeByJoining.desc).map (fun d => d.parameters.length) = some 1 := by decide +kernel
def tj_X3_rangeByJoining_26 (M : MS) (s0 : Int64) (Q : Int64 → MS → Prop) : Prop :=
  Q s0 M
theorem tb_X3_rangeByJoining_26 {l : Launch} {p : Program} {e : Env} {s : State} {m : MethodId} {args : Array Value} {below : List Frame} {meth : Method} {c : Code} {D : va_G} {g : Nat → Nat} {cI cJ : ClassId} (C : gx_C p s m args meth c cX3_rangeByJoining 2 (some .long) RX3) (hK : va_K D gcl [(cI, .int), (cJ, .long)] s) {M : MS} {s0 : Int64} {Q : Int64 → MS → Prop} (h : tj_X3_rangeByJoining_26 M s0 Q)  : gx_W p l e (headSpec (ws_ yX3_rangeByJoining cX3_rangeByJoining 2 (some .long)) rmX3_rangeByJoining).room s m args below meth c 2 (tm_I D g cI cJ s M) 0 0 (MQ below (va_Ql Q (tm_B D g cI cJ s.heap.size) (tm_A g s.heap.size)) args s 0 0 (tm_A g s.heap.size)) 26 [] [.long s0] := by
  unfold tj_X3_rangeByJoining_26 at h
  exact tm_lret C hK h dX3_rangeByJoining_26
def tw_X3_rangeByJoining (M : MS) (a1 : Int32) (Q : Int64 → MS → Prop) : Prop :=
  tw_X3_asksBox M a1 (fun r2 M2 => ((r2 = 0 → tj_X3_rangeByJoining_26 M2 0 Q) ∧ (¬ (r2 = 0) → (vp_in (144 + a1) 754 ∧ tw_X3_rangeFrom M2 (ms_r M2 0 (144 + a1)) (fun r19 M19 => tj_X3_rangeByJoining_26 M19 r19 Q)))))
theorem tk_X3_rangeByJoining {l : Launch} {D : va_G} {g : Nat → Nat} {cI cJ : ClassId} {sz : Nat} {M : MS} {a1 : Int32} {Q : Int64 → MS → Prop} (h : tw_X3_rangeByJoining M a1 Q) : tm_Met l yX3_rangeByJoining cX3_rangeByJoining 2 (some .long) rmX3_rangeByJoining [.int a1] D g cI cJ sz M (va_Ql Q (tm_B D g cI cJ sz) (tm_A g sz)) := by
  refine tm_entry (by decide) (Nat.le_of_ble_eq_true rfl) (fun p e s m args below meth c hsz C hK => ?_)
  subst hsz
  unfold tw_X3_rangeByJoining at h
  show gx_W p l e (headSpec (ws_ yX3_rangeByJoining cX3_rangeByJoining 2 (some .long)) rmX3_rangeByJoining).room s m args below meth c 2 (tm_I D g cI cJ s M) 0 0 (MQ below (va_Ql Q (tm_B D g cI cJ s.heap.size) (tm_A g s.heap.size)) args s 0 0 (tm_A g s.heap.size)) 0 [(0, .ref (g 0)), (1, .int a1)] []
  refine gx_aload_n C dX3_rangeByJoining_0 rfl 0 rfl ?_
  refine gx_iload_n C dX3_rangeByJoining_1 rfl 1 rfl ?_
  refine tm_calli (rest := []) C hK (fun sz => tk_X3_asksBox h) (cwV 1 C.t (lw_V q2419 q2421 qs53 q130 q2422) rfl rfl rfl ⟨rfl, dmX3_asksBox⟩ ⟨Nat.le_of_ble_eq_true rfl, Nat.le_of_ble_eq_true rfl⟩) rfl rfl (Nat.le_of_ble_eq_true rfl) dX3_rangeByJoining_2 (fun r2 M2 h => ?_)
  refine gx_if_eq (tgt := 25) C dX3_rangeByJoining_5 (by decide) (fun z => ?_) (fun z => ?_)
  · replace h := h.1 z
    refine gx_lconst (v := 0) C dX3_rangeByJoining_25 (by decide) ?_
    refine gx_sub [] rfl ?_
    exact tb_X3_rangeByJoining_26 C hK h
  · replace h := h.2 z
    refine gx_aload_n C dX3_rangeByJoining_8 rfl 0 rfl ?_
    refine gx_aload_n C dX3_rangeByJoining_9 rfl 0 rfl ?_
    refine tm_get C hK 1 (by decide) q2301 rfl rfl dX3_rangeByJoining_10 ?_
    refine gx_sipush (v := 144) C dX3_rangeByJoining_13 (by decide) ?_
    refine gx_iload_n C dX3_rangeByJoining_16 rfl 1 rfl ?_
    refine gx_iadd C dX3_rangeByJoining_17 ?_
    obtain ⟨g18, h⟩ := h
    refine tm_ald0 C hK g18 dX3_rangeByJoining_18 ?_
    refine tm_calll (rest := []) C hK (fun sz => tk_X3_rangeFrom h) (cwV 1 C.t (lw_V q2493 q2495 qs67 q130 q2496) rfl rfl rfl ⟨rfl, dmX3_rangeFrom⟩ ⟨Nat.le_of_ble_eq_true rfl, Nat.le_of_ble_eq_true rfl⟩) rfl rfl (Nat.le_of_ble_eq_true rfl) dX3_rangeByJoining_19 (fun r19 M19 h => ?_)
    refine gx_goto (tgt := 26) C dX3_rangeByJoining_22 (by decide) ?_
    refine gx_sub [] rfl ?_
    exact tb_X3_rangeByJoining_26 C hK h
/-! shareOf(I)I -/
abbrev rmX3_shareOf : Room := { frames := 6, cells := 0, slots := 0, locals := 136 }
theorem dmX3_shareOf : yX3_shareOf.cls ≠ "java/lang/invoke/MethodHandle" ∧ yX3_shareOf.cls ≠ "java/lang/invoke/VarHandle" ∧ (parseMethodDescriptor yX3_shareOf.desc).map (fun d => d.parameters.length) = some 1 := by decide +kernel
def tj_X3_shareOf_21 (M : MS) (s0 : Int32) (Q : Int32 → MS → Prop) : Prop :=
  Q s0 M
theorem tb_X3_shareOf_21 {l : Launch} {p : Program} {e : Env} {s : State} {m : MethodId} {args : Array Value} {below : List Frame} {meth : Method} {c : Code} {D : va_G} {g : Nat → Nat} {cI cJ : ClassId} (C : gx_C p s m args meth c cX3_shareOf 2 (some .int) RX3) (hK : va_K D gcl [(cI, .int), (cJ, .long)] s) {M : MS} {s0 : Int32} {Q : Int32 → MS → Prop} (h : tj_X3_shareOf_21 M s0 Q)  : gx_W p l e (headSpec (ws_ yX3_shareOf cX3_shareOf 2 (some .int)) rmX3_shareOf).room s m args below meth c 2 (tm_I D g cI cJ s M) 0 0 (MQ below (va_Qi Q (tm_B D g cI cJ s.heap.size) (tm_A g s.heap.size)) args s 0 0 (tm_A g s.heap.size)) 21 [] [.int s0] := by
  unfold tj_X3_shareOf_21 at h
  exact tm_iret C hK h dX3_shareOf_21
def tw_X3_shareOf (M : MS) (a1 : Int32) (Q : Int32 → MS → Prop) : Prop :=
  tw_X3_laysRanges M (fun M1 => tw_X3_asksBox M1 a1 (fun r6 M6 => ((r6 = 0 → tj_X3_shareOf_21 M6 0 Q) ∧ (¬ (r6 = 0) → tw_X3_share M6 a1 (fun r14 M14 => tj_X3_shareOf_21 M14 r14 Q)))))
theorem tk_X3_shareOf {l : Launch} {D : va_G} {g : Nat → Nat} {cI cJ : ClassId} {sz : Nat} {M : MS} {a1 : Int32} {Q : Int32 → MS → Prop} (h : tw_X3_shareOf M a1 Q) : tm_Met l yX3_shareOf cX3_shareOf 2 (some .int) rmX3_shareOf [.int a1] D g cI cJ sz M (va_Qi Q (tm_B D g cI cJ sz) (tm_A g sz)) := by
  refine tm_entry (by decide) (Nat.le_of_ble_eq_true rfl) (fun p e s m args below meth c hsz C hK => ?_)
  subst hsz
  unfold tw_X3_shareOf at h
  show gx_W p l e (headSpec (ws_ yX3_shareOf cX3_shareOf 2 (some .int)) rmX3_shareOf).room s m args below meth c 2 (tm_I D g cI cJ s M) 0 0 (MQ below (va_Qi Q (tm_B D g cI cJ s.heap.size) (tm_A g s.heap.size)) args s 0 0 (tm_A g s.heap.size)) 0 [(0, .ref (g 0)), (1, .int a1)] []
  refine gx_aload_n C dX3_shareOf_0 rfl 0 rfl ?_
  refine tm_callv (rest := []) C hK (fun sz => tk_X3_laysRanges h) (cwV 0 C.t (lw_V q2489 q2491 qs66 q130 q2492) rfl rfl rfl ⟨rfl, dmX3_laysRanges⟩ ⟨Nat.le_of_ble_eq_true rfl, Nat.le_of_ble_eq_true rfl⟩) rfl rfl (Nat.le_of_ble_eq_true rfl) dX3_shareOf_1 (fun M1 h => ?_)
  refine gx_aload_n C dX3_shareOf_4 rfl 0 rfl ?_
  refine gx_iload_n C dX3_shareOf_5 rfl 1 rfl ?_
  refine tm_calli (rest := []) C hK (fun sz => tk_X3_asksBox h) (cwV 1 C.t (lw_V q2419 q2421 qs53 q130 q2422) rfl rfl rfl ⟨rfl, dmX3_asksBox⟩ ⟨Nat.le_of_ble_eq_true rfl, Nat.le_of_ble_eq_true rfl⟩) rfl rfl (Nat.le_of_ble_eq_true rfl) dX3_shareOf_6 (fun r6 M6 h => ?_)
  refine gx_if_eq (tgt := 20) C dX3_shareOf_9 (by decide) (fun z => ?_) (fun z => ?_)
  · replace h := h.1 z
    refine gx_iconst (v := 0) C dX3_shareOf_20 (by decide) ?_
    refine gx_sub [] rfl ?_
    exact tb_X3_shareOf_21 C hK h
  · replace h := h.2 z
    refine gx_aload_n C dX3_shareOf_12 rfl 0 rfl ?_
    refine gx_iload_n C dX3_shareOf_13 rfl 1 rfl ?_
    refine tm_calli (rest := []) C hK (fun sz => tk_X3_share h) (cwV 1 C.t (lw_V q2517 q2519 qs70 q130 q2520) rfl rfl rfl ⟨rfl, dmX3_share⟩ ⟨Nat.le_of_ble_eq_true rfl, Nat.le_of_ble_eq_true rfl⟩) rfl rfl (Nat.le_of_ble_eq_true rfl) dX3_shareOf_14 (fun r14 M14 h => ?_)
    refine gx_goto (tgt := 21) C dX3_shareOf_17 (by decide) ?_
    refine gx_sub [] rfl ?_
    exact tb_X3_shareOf_21 C hK h
/-! crowdOf(I)I -/
abbrev rmX3_crowdOf : Room := { frames := 4, cells := 0, slots := 0, locals := 92 }
theorem dmX3_crowdOf : yX3_crowdOf.cls ≠ "java/lang/invoke/MethodHandle" ∧ yX3_crowdOf.cls ≠ "java/lang/invoke/VarHandle" ∧ (parseMethodDescriptor yX3_crowdOf.desc).map (fun d => d.parameters.length) = some 1 := by decide +kernel
def tj_X3_crowdOf_21 (M : MS) (s0 : Int32) (Q : Int32 → MS → Prop) : Prop :=
  Q s0 M
theorem tb_X3_crowdOf_21 {l : Launch} {p : Program} {e : Env} {s : State} {m : MethodId} {args : Array Value} {below : List Frame} {meth : Method} {c : Code} {D : va_G} {g : Nat → Nat} {cI cJ : ClassId} (C : gx_C p s m args meth c cX3_crowdOf 2 (some .int) RX3) (hK : va_K D gcl [(cI, .int), (cJ, .long)] s) {M : MS} {s0 : Int32} {Q : Int32 → MS → Prop} (h : tj_X3_crowdOf_21 M s0 Q)  : gx_W p l e (headSpec (ws_ yX3_crowdOf cX3_crowdOf 2 (some .int)) rmX3_crowdOf).room s m args below meth c 2 (tm_I D g cI cJ s M) 0 0 (MQ below (va_Qi Q (tm_B D g cI cJ s.heap.size) (tm_A g s.heap.size)) args s 0 0 (tm_A g s.heap.size)) 21 [] [.int s0] := by
  unfold tj_X3_crowdOf_21 at h
  exact tm_iret C hK h dX3_crowdOf_21
def tw_X3_crowdOf (M : MS) (a1 : Int32) (Q : Int32 → MS → Prop) : Prop :=
  tw_X3_laysRanges M (fun M1 => tw_X3_asksSquare M1 a1 (fun r6 M6 => ((r6 = 0 → tj_X3_crowdOf_21 M6 0 Q) ∧ (¬ (r6 = 0) → tw_X3_crowd M6 a1 (fun r14 M14 => tj_X3_crowdOf_21 M14 r14 Q)))))
theorem tk_X3_crowdOf {l : Launch} {D : va_G} {g : Nat → Nat} {cI cJ : ClassId} {sz : Nat} {M : MS} {a1 : Int32} {Q : Int32 → MS → Prop} (h : tw_X3_crowdOf M a1 Q) : tm_Met l yX3_crowdOf cX3_crowdOf 2 (some .int) rmX3_crowdOf [.int a1] D g cI cJ sz M (va_Qi Q (tm_B D g cI cJ sz) (tm_A g sz)) := by
  refine tm_entry (by decide) (Nat.le_of_ble_eq_true rfl) (fun p e s m args below meth c hsz C hK => ?_)
  subst hsz
  unfold tw_X3_crowdOf at h
  show gx_W p l e (headSpec (ws_ yX3_crowdOf cX3_crowdOf 2 (some .int)) rmX3_crowdOf).room s m args below meth c 2 (tm_I D g cI cJ s M) 0 0 (MQ below (va_Qi Q (tm_B D g cI cJ s.heap.size) (tm_A g s.heap.size)) args s 0 0 (tm_A g s.heap.size)) 0 [(0, .ref (g 0)), (1, .int a1)] []
  refine gx_aload_n C dX3_crowdOf_0 rfl 0 rfl ?_
  refine tm_callv (rest := []) C hK (fun sz => tk_X3_laysRanges h) (cwV 0 C.t (lw_V q2489 q2491 qs66 q130 q2492) rfl rfl rfl ⟨rfl, dmX3_laysRanges⟩ ⟨Nat.le_of_ble_eq_true rfl, Nat.le_of_ble_eq_true rfl⟩) rfl rfl (Nat.le_of_ble_eq_true rfl) dX3_crowdOf_1 (fun M1 h => ?_)
  refine gx_aload_n C dX3_crowdOf_4 rfl 0 rfl ?_
  refine gx_iload_n C dX3_crowdOf_5 rfl 1 rfl ?_
  refine tm_calli (rest := []) C hK (fun sz => tk_X3_asksSquare h) (cwV 1 C.t (lw_V q2582 q2584 qs83 q130 q2585) rfl rfl rfl ⟨rfl, dmX3_asksSquare⟩ ⟨Nat.le_of_ble_eq_true rfl, Nat.le_of_ble_eq_true rfl⟩) rfl rfl (Nat.le_of_ble_eq_true rfl) dX3_crowdOf_6 (fun r6 M6 h => ?_)
  refine gx_if_eq (tgt := 20) C dX3_crowdOf_9 (by decide) (fun z => ?_) (fun z => ?_)
  · replace h := h.1 z
    refine gx_iconst (v := 0) C dX3_crowdOf_20 (by decide) ?_
    refine gx_sub [] rfl ?_
    exact tb_X3_crowdOf_21 C hK h
  · replace h := h.2 z
    refine gx_aload_n C dX3_crowdOf_12 rfl 0 rfl ?_
    refine gx_iload_n C dX3_crowdOf_13 rfl 1 rfl ?_
    refine tm_calli (rest := []) C hK (fun sz => tk_X3_crowd h) (cwV 1 C.t (lw_V q2525 q2527 qs72 q130 q2528) rfl rfl rfl ⟨rfl, dmX3_crowd⟩ ⟨Nat.le_of_ble_eq_true rfl, Nat.le_of_ble_eq_true rfl⟩) rfl rfl (Nat.le_of_ble_eq_true rfl) dX3_crowdOf_14 (fun r14 M14 h => ?_)
    refine gx_goto (tgt := 21) C dX3_crowdOf_17 (by decide) ?_
    refine gx_sub [] rfl ?_
    exact tb_X3_crowdOf_21 C hK h
/-! riskOf(I)I -/
abbrev rmX3_riskOf : Room := { frames := 3, cells := 0, slots := 0, locals := 66 }
theorem dmX3_riskOf : yX3_riskOf.cls ≠ "java/lang/invoke/MethodHandle" ∧ yX3_riskOf.cls ≠ "java/lang/invoke/VarHandle" ∧ (parseMethodDescriptor yX3_riskOf.desc).map (fun d => d.parameters.length) = some 1 := by decide +kernel
def tj_X3_riskOf_17 (M : MS) (s0 : Int32) (Q : Int32 → MS → Prop) : Prop :=
  Q s0 M
theorem tb_X3_riskOf_17 {l : Launch} {p : Program} {e : Env} {s : State} {m : MethodId} {args : Array Value} {below : List Frame} {meth : Method} {c : Code} {D : va_G} {g : Nat → Nat} {cI cJ : ClassId} (C : gx_C p s m args meth c cX3_riskOf 2 (some .int) RX3) (hK : va_K D gcl [(cI, .int), (cJ, .long)] s) {M : MS} {s0 : Int32} {Q : Int32 → MS → Prop} (h : tj_X3_riskOf_17 M s0 Q)  : gx_W p l e (headSpec (ws_ yX3_riskOf cX3_riskOf 2 (some .int)) rmX3_riskOf).room s m args below meth c 2 (tm_I D g cI cJ s M) 0 0 (MQ below (va_Qi Q (tm_B D g cI cJ s.heap.size) (tm_A g s.heap.size)) args s 0 0 (tm_A g s.heap.size)) 17 [] [.int s0] := by
  unfold tj_X3_riskOf_17 at h
  exact tm_iret C hK h dX3_riskOf_17
def tw_X3_riskOf (M : MS) (a1 : Int32) (Q : Int32 → MS → Prop) : Prop :=
  tw_X3_asksBox M a1 (fun r2 M2 => ((r2 = 0 → tj_X3_riskOf_17 M2 0 Q) ∧ (¬ (r2 = 0) → tw_X3_risk M2 a1 (fun r10 M10 => tj_X3_riskOf_17 M10 r10 Q))))
theorem tk_X3_riskOf {l : Launch} {D : va_G} {g : Nat → Nat} {cI cJ : ClassId} {sz : Nat} {M : MS} {a1 : Int32} {Q : Int32 → MS → Prop} (h : tw_X3_riskOf M a1 Q) : tm_Met l yX3_riskOf cX3_riskOf 2 (some .int) rmX3_riskOf [.int a1] D g cI cJ sz M (va_Qi Q (tm_B D g cI cJ sz) (tm_A g sz)) := by
  refine tm_entry (by decide) (Nat.le_of_ble_eq_true rfl) (fun p e s m args below meth c hsz C hK => ?_)
  subst hsz
  unfold tw_X3_riskOf at h
  show gx_W p l e (headSpec (ws_ yX3_riskOf cX3_riskOf 2 (some .int)) rmX3_riskOf).room s m args below meth c 2 (tm_I D g cI cJ s M) 0 0 (MQ below (va_Qi Q (tm_B D g cI cJ s.heap.size) (tm_A g s.heap.size)) args s 0 0 (tm_A g s.heap.size)) 0 [(0, .ref (g 0)), (1, .int a1)] []
  refine gx_aload_n C dX3_riskOf_0 rfl 0 rfl ?_
  refine gx_iload_n C dX3_riskOf_1 rfl 1 rfl ?_
  refine tm_calli (rest := []) C hK (fun sz => tk_X3_asksBox h) (cwV 1 C.t (lw_V q2419 q2421 qs53 q130 q2422) rfl rfl rfl ⟨rfl, dmX3_asksBox⟩ ⟨Nat.le_of_ble_eq_true rfl, Nat.le_of_ble_eq_true rfl⟩) rfl rfl (Nat.le_of_ble_eq_true rfl) dX3_riskOf_2 (fun r2 M2 h => ?_)
  refine gx_if_eq (tgt := 16) C dX3_riskOf_5 (by decide) (fun z => ?_) (fun z => ?_)
  · replace h := h.1 z
    refine gx_iconst (v := 0) C dX3_riskOf_16 (by decide) ?_
    refine gx_sub [] rfl ?_
    exact tb_X3_riskOf_17 C hK h
  · replace h := h.2 z
    refine gx_aload_n C dX3_riskOf_8 rfl 0 rfl ?_
    refine gx_iload_n C dX3_riskOf_9 rfl 1 rfl ?_
    refine tm_calli (rest := []) C hK (fun sz => tk_X3_risk h) (cwV 1 C.t (lw_V q2541 q2543 qs76 q130 q2544) rfl rfl rfl ⟨rfl, dmX3_risk⟩ ⟨Nat.le_of_ble_eq_true rfl, Nat.le_of_ble_eq_true rfl⟩) rfl rfl (Nat.le_of_ble_eq_true rfl) dX3_riskOf_10 (fun r10 M10 h => ?_)
    refine gx_goto (tgt := 17) C dX3_riskOf_13 (by decide) ?_
    refine gx_sub [] rfl ?_
    exact tb_X3_riskOf_17 C hK h
/-! ringIn(II)I -/
abbrev rmX3_ringIn : Room := { frames := 2, cells := 0, slots := 0, locals := 46 }
theorem dmX3_ringIn : yX3_ringIn.cls ≠ "java/lang/invoke/MethodHandle" ∧ yX3_ringIn.cls ≠ "java/lang/invoke/VarHandle" ∧ (parseMethodDescriptor yX3_ringIn.desc).map (fun d => d.parameters.length) = some 2 := by decide +kernel
def tj_X3_ringIn_22 (M : MS) (s0 : Int32) (Q : Int32 → MS → Prop) : Prop :=
  Q s0 M
theorem tb_X3_ringIn_22 {l : Launch} {p : Program} {e : Env} {s : State} {m : MethodId} {args : Array Value} {below : List Frame} {meth : Method} {c : Code} {D : va_G} {g : Nat → Nat} {cI cJ : ClassId} (C : gx_C p s m args meth c cX3_ringIn 4 (some .int) RX3) (hK : va_K D gcl [(cI, .int), (cJ, .long)] s) {M : MS} {s0 : Int32} {Q : Int32 → MS → Prop} (h : tj_X3_ringIn_22 M s0 Q)  : gx_W p l e (headSpec (ws_ yX3_ringIn cX3_ringIn 4 (some .int)) rmX3_ringIn).room s m args below meth c 4 (tm_I D g cI cJ s M) 0 0 (MQ below (va_Qi Q (tm_B D g cI cJ s.heap.size) (tm_A g s.heap.size)) args s 0 0 (tm_A g s.heap.size)) 22 [] [.int s0] := by
  unfold tj_X3_ringIn_22 at h
  exact tm_iret C hK h dX3_ringIn_22
def tw_X3_ringIn (M : MS) (a1 : Int32) (a2 : Int32) (Q : Int32 → MS → Prop) : Prop :=
  tw_X3_owlIn M a1 a2 (fun r3 M3 => ((r3 = (-1) → tj_X3_ringIn_22 M3 (-1) Q) ∧ (¬ (r3 = (-1)) → tw_X3_of M3 r3 0 (fun r19 M19 => tj_X3_ringIn_22 M19 r19 Q))))
theorem tk_X3_ringIn {l : Launch} {D : va_G} {g : Nat → Nat} {cI cJ : ClassId} {sz : Nat} {M : MS} {a1 : Int32} {a2 : Int32} {Q : Int32 → MS → Prop} (h : tw_X3_ringIn M a1 a2 Q) : tm_Met l yX3_ringIn cX3_ringIn 4 (some .int) rmX3_ringIn [.int a1, .int a2] D g cI cJ sz M (va_Qi Q (tm_B D g cI cJ sz) (tm_A g sz)) := by
  refine tm_entry (by decide) (Nat.le_of_ble_eq_true rfl) (fun p e s m args below meth c hsz C hK => ?_)
  subst hsz
  unfold tw_X3_ringIn at h
  show gx_W p l e (headSpec (ws_ yX3_ringIn cX3_ringIn 4 (some .int)) rmX3_ringIn).room s m args below meth c 4 (tm_I D g cI cJ s M) 0 0 (MQ below (va_Qi Q (tm_B D g cI cJ s.heap.size) (tm_A g s.heap.size)) args s 0 0 (tm_A g s.heap.size)) 0 [(0, .ref (g 0)), (1, .int a1), (2, .int a2)] []
  refine gx_aload_n C dX3_ringIn_0 rfl 0 rfl ?_
  refine gx_iload_n C dX3_ringIn_1 rfl 1 rfl ?_
  refine gx_iload_n C dX3_ringIn_2 rfl 2 rfl ?_
  refine tm_calli (rest := []) C hK (fun sz => tk_X3_owlIn h) (cwV 2 C.t (lw_V q2431 q2433 qs56 q130 q2434) rfl rfl rfl ⟨rfl, dmX3_owlIn⟩ ⟨Nat.le_of_ble_eq_true rfl, Nat.le_of_ble_eq_true rfl⟩) rfl rfl (Nat.le_of_ble_eq_true rfl) dX3_ringIn_3 (fun r3 M3 h => ?_)
  refine gx_istore_n (lv' := [(3, .int r3), (0, .ref (g 0)), (1, .int a1), (2, .int a2)]) C dX3_ringIn_6 rfl (by decide) rfl ?_
  refine gx_iload_n C dX3_ringIn_7 rfl 0 rfl ?_
  refine gx_iconst (v := (-1)) C dX3_ringIn_8 (by decide) ?_
  refine gx_icmp_ne (tgt := 16) C dX3_ringIn_9 (by decide) (fun z => ?_) (fun z => ?_)
  · replace h := h.2 z
    refine gx_aload_n C dX3_ringIn_16 rfl 1 rfl ?_
    refine gx_iload_n C dX3_ringIn_17 rfl 0 rfl ?_
    refine gx_iconst (v := 0) C dX3_ringIn_18 (by decide) ?_
    refine tm_calli (rest := []) C hK (fun sz => tk_X3_of h) (cwV 2 C.t (lw_V q2435 q2437 qs57 q130 q2438) rfl rfl rfl ⟨rfl, dmX3_of⟩ ⟨Nat.le_of_ble_eq_true rfl, Nat.le_of_ble_eq_true rfl⟩) rfl rfl (Nat.le_of_ble_eq_true rfl) dX3_ringIn_19 (fun r19 M19 h => ?_)
    refine gx_sub [] rfl ?_
    exact tb_X3_ringIn_22 C hK h
  · replace h := h.1 z
    refine gx_iconst (v := (-1)) C dX3_ringIn_12 (by decide) ?_
    refine gx_goto (tgt := 22) C dX3_ringIn_13 (by decide) ?_
    refine gx_sub [] rfl ?_
    exact tb_X3_ringIn_22 C hK h
/-! livesIn(II)I -/
abbrev rmX3_livesIn : Room := { frames := 3, cells := 0, slots := 0, locals := 69 }
theorem dmX3_livesIn : yX3_livesIn.cls ≠ "java/lang/invoke/MethodHandle" ∧ yX3_livesIn.cls ≠ "java/lang/invoke/VarHandle" ∧ (parseMethodDescriptor yX3_livesIn.desc).map (fun d => d.parameters.length) = some 2 := by decide +kernel
def tj_X3_livesIn_45 (M : MS) (s0 : Int32) (Q : Int32 → MS → Prop) : Prop :=
  Q s0 M
theorem tb_X3_livesIn_45 {l : Launch} {p : Program} {e : Env} {s : State} {m : MethodId} {args : Array Value} {below : List Frame} {meth : Method} {c : Code} {D : va_G} {g : Nat → Nat} {cI cJ : ClassId} (C : gx_C p s m args meth c cX3_livesIn 3 (some .int) RX3) (hK : va_K D gcl [(cI, .int), (cJ, .long)] s) {M : MS} {s0 : Int32} {Q : Int32 → MS → Prop} (h : tj_X3_livesIn_45 M s0 Q)  : gx_W p l e (headSpec (ws_ yX3_livesIn cX3_livesIn 3 (some .int)) rmX3_livesIn).room s m args below meth c 3 (tm_I D g cI cJ s M) 0 0 (MQ below (va_Qi Q (tm_B D g cI cJ s.heap.size) (tm_A g s.heap.size)) args s 0 0 (tm_A g s.heap.size)) 45 [] [.int s0] := by
  unfold tj_X3_livesIn_45 at h
  exact tm_iret C hK h dX3_livesIn_45
def tj_X3_livesIn_25 (M : MS) (a1 : Int32) (a2 : Int32) (s1 : Int32) (Q : Int32 → MS → Prop) : Prop :=
  (∀ M25 : MS, M25 = ms_s M 0 s1 → (((M25.1 0) ≤ 0 → tw_X3_ringIn M25 a1 a2 (fun r42 M42 => tj_X3_livesIn_45 M42 r42 Q)) ∧ (¬ (M25.1 0) ≤ 0 → tj_X3_livesIn_45 M25 0 Q)))
theorem tb_X3_livesIn_25 {l : Launch} {p : Program} {e : Env} {s : State} {m : MethodId} {args : Array Value} {below : List Frame} {meth : Method} {c : Code} {D : va_G} {g : Nat → Nat} {cI cJ : ClassId} (C : gx_C p s m args meth c cX3_livesIn 3 (some .int) RX3) (hK : va_K D gcl [(cI, .int), (cJ, .long)] s) {M : MS} {a1 : Int32} {a2 : Int32} {s1 : Int32} {Q : Int32 → MS → Prop} (h : tj_X3_livesIn_25 M a1 a2 s1 Q)  : gx_W p l e (headSpec (ws_ yX3_livesIn cX3_livesIn 3 (some .int)) rmX3_livesIn).room s m args below meth c 3 (tm_I D g cI cJ s M) 0 0 (MQ below (va_Qi Q (tm_B D g cI cJ s.heap.size) (tm_A g s.heap.size)) args s 0 0 (tm_A g s.heap.size)) 25 [(0, .ref (g 0)), (1, .int a1), (2, .int a2)] [.int s1, .ref (g 0)] := by
  unfold tj_X3_livesIn_25 at h
  refine tm_put0 C hK q2300 dX3_livesIn_25 (fun M25 e_M25 => ?_)
  replace h := h M25 e_M25
  refine gx_aload_n C dX3_livesIn_28 rfl 0 rfl ?_
  refine tm_get C hK 0 (by decide) q2300 rfl rfl dX3_livesIn_29 ?_
  refine gx_if_le (tgt := 39) C dX3_livesIn_32 (by decide) (fun z => ?_) (fun z => ?_)
  · replace h := h.1 z
    refine gx_aload_n C dX3_livesIn_39 rfl 0 rfl ?_
    refine gx_iload_n C dX3_livesIn_40 rfl 1 rfl ?_
    refine gx_iload_n C dX3_livesIn_41 rfl 2 rfl ?_
    refine tm_calli (rest := []) C hK (fun sz => tk_X3_ringIn h) (cwV 2 C.t (lw_V q2650 q2652 qs86 q130 q2653) rfl rfl rfl ⟨rfl, dmX3_ringIn⟩ ⟨Nat.le_of_ble_eq_true rfl, Nat.le_of_ble_eq_true rfl⟩) rfl rfl (Nat.le_of_ble_eq_true rfl) dX3_livesIn_42 (fun r42 M42 h => ?_)
    refine gx_sub [] rfl ?_
    exact tb_X3_livesIn_45 C hK h
  · replace h := h.2 z
    refine gx_iconst (v := 0) C dX3_livesIn_35 (by decide) ?_
    refine gx_goto (tgt := 45) C dX3_livesIn_36 (by decide) ?_
    refine gx_sub [] rfl ?_
    exact tb_X3_livesIn_45 C hK h
def tw_X3_livesIn (M : MS) (a1 : Int32) (a2 : Int32) (Q : Int32 → MS → Prop) : Prop :=
  tw_X3_isBox M a1 (fun r3 M3 => ((r3 = 0 → tj_X3_livesIn_25 M3 a1 a2 1 Q) ∧ (¬ (r3 = 0) → pw_X3_isSex a2 (fun r14 => tj_X3_livesIn_25 M3 a1 a2 ((if r14 = 0 then 2 else 0)) Q))))
theorem tk_X3_livesIn {l : Launch} {D : va_G} {g : Nat → Nat} {cI cJ : ClassId} {sz : Nat} {M : MS} {a1 : Int32} {a2 : Int32} {Q : Int32 → MS → Prop} (h : tw_X3_livesIn M a1 a2 Q) : tm_Met l yX3_livesIn cX3_livesIn 3 (some .int) rmX3_livesIn [.int a1, .int a2] D g cI cJ sz M (va_Qi Q (tm_B D g cI cJ sz) (tm_A g sz)) := by
  refine tm_entry (by decide) (Nat.le_of_ble_eq_true rfl) (fun p e s m args below meth c hsz C hK => ?_)
  subst hsz
  unfold tw_X3_livesIn at h
  show gx_W p l e (headSpec (ws_ yX3_livesIn cX3_livesIn 3 (some .int)) rmX3_livesIn).room s m args below meth c 3 (tm_I D g cI cJ s M) 0 0 (MQ below (va_Qi Q (tm_B D g cI cJ s.heap.size) (tm_A g s.heap.size)) args s 0 0 (tm_A g s.heap.size)) 0 [(0, .ref (g 0)), (1, .int a1), (2, .int a2)] []
  refine gx_aload_n C dX3_livesIn_0 rfl 0 rfl ?_
  refine gx_aload_n C dX3_livesIn_1 rfl 0 rfl ?_
  refine gx_iload_n C dX3_livesIn_2 rfl 1 rfl ?_
  refine tm_calli (rest := [.ref (g 0)]) C hK (fun sz => tk_X3_isBox h) (cwV 1 C.t (lw_V q2423 q2425 qs54 q130 q2426) rfl rfl rfl ⟨rfl, dmX3_isBox⟩ ⟨Nat.le_of_ble_eq_true rfl, Nat.le_of_ble_eq_true rfl⟩) rfl rfl (Nat.le_of_ble_eq_true rfl) dX3_livesIn_3 (fun r3 M3 h => ?_)
  refine gx_if_ne (tgt := 13) C dX3_livesIn_6 (by decide) (fun z => ?_) (fun z => ?_)
  · replace h := h.2 z
    refine gx_iload_n C dX3_livesIn_13 rfl 2 rfl ?_
    refine gx_calls_i (rest := [.ref (g 0)]) C (pk_X3_isSex h) (va_cwS 1 C.t (lw_S q2447 q2448 q130 q2449) rfl rfl rfl dmX3_isSex ⟨Nat.le_of_ble_eq_true rfl, Nat.le_of_ble_eq_true rfl⟩) rfl rfl (Nat.le_of_ble_eq_true rfl) ⟨Nat.zero_le _, Nat.zero_le _⟩ dX3_livesIn_14 (fun r14 h => ?_)
    refine gx_phii (t := (if r14 = 0 then 2 else 0)) (pc2 := 25) (lv2 := [(0, .ref (g 0)), (1, .int a1), (2, .int a2)]) (rest2 := [.ref (g 0)]) (fun key => ?_) ?_
    · refine gx_if_eq (tgt := 24) C dX3_livesIn_17 (by decide) (fun z1 => ?_) (fun z1 => ?_)
      · refine gx_iconst (v := 2) C dX3_livesIn_24 (by decide) ?_
        exact gx_casti (if_pos z1) key
      · refine gx_iconst (v := 0) C dX3_livesIn_20 (by decide) ?_
        refine gx_goto (tgt := 25) C dX3_livesIn_21 (by decide) ?_
        exact gx_casti (if_neg z1) key
    exact tb_X3_livesIn_25 C hK h
  · replace h := h.1 z
    refine gx_iconst (v := 1) C dX3_livesIn_9 (by decide) ?_
    refine gx_goto (tgt := 25) C dX3_livesIn_10 (by decide) ?_
    exact tb_X3_livesIn_25 C hK h
/-! whyNoYoung(I)I -/
abbrev rmX3_whyNoYoung : Room := { frames := 7, cells := 0, slots := 0, locals := 159 }
theorem dmX3_whyNoYoung : yX3_whyNoYoung.cls ≠ "java/lang/invoke/MethodHandle" ∧ yX3_whyNoYoung.cls ≠ "java/lang/invoke/VarHandle" ∧ (parseMethodDescriptor yX3_whyNoYoung.desc).map (fun d => d.parameters.length) = some 1 := by decide +kernel
def tj_X3_whyNoYoung_21 (M : MS) (s0 : Int32) (Q : Int32 → MS → Prop) : Prop :=
  Q s0 M
theorem tb_X3_whyNoYoung_21 {l : Launch} {p : Program} {e : Env} {s : State} {m : MethodId} {args : Array Value} {below : List Frame} {meth : Method} {c : Code} {D : va_G} {g : Nat → Nat} {cI cJ : ClassId} (C : gx_C p s m args meth c cX3_whyNoYoung 2 (some .int) RX3) (hK : va_K D gcl [(cI, .int), (cJ, .long)] s) {M : MS} {s0 : Int32} {Q : Int32 → MS → Prop} (h : tj_X3_whyNoYoung_21 M s0 Q)  : gx_W p l e (headSpec (ws_ yX3_whyNoYoung cX3_whyNoYoung 2 (some .int)) rmX3_whyNoYoung).room s m args below meth c 2 (tm_I D g cI cJ s M) 0 0 (MQ below (va_Qi Q (tm_B D g cI cJ s.heap.size) (tm_A g s.heap.size)) args s 0 0 (tm_A g s.heap.size)) 21 [] [.int s0] := by
  unfold tj_X3_whyNoYoung_21 at h
  exact tm_iret C hK h dX3_whyNoYoung_21
def tw_X3_whyNoYoung (M : MS) (a1 : Int32) (Q : Int32 → MS → Prop) : Prop :=
  tw_X3_laysRanges M (fun M1 => tw_X3_asksBox M1 a1 (fun r6 M6 => ((r6 = 0 → tj_X3_whyNoYoung_21 M6 0 Q) ∧ (¬ (r6 = 0) → tw_X3_reason M6 a1 (fun r14 M14 => tj_X3_whyNoYoung_21 M14 r14 Q)))))
theorem tk_X3_whyNoYoung {l : Launch} {D : va_G} {g : Nat → Nat} {cI cJ : ClassId} {sz : Nat} {M : MS} {a1 : Int32} {Q : Int32 → MS → Prop} (h : tw_X3_whyNoYoung M a1 Q) : tm_Met l yX3_whyNoYoung cX3_whyNoYoung 2 (some .int) rmX3_whyNoYoung [.int a1] D g cI cJ sz M (va_Qi Q (tm_B D g cI cJ sz) (tm_A g sz)) := by
  refine tm_entry (by decide) (Nat.le_of_ble_eq_true rfl) (fun p e s m args below meth c hsz C hK => ?_)
  subst hsz
  unfold tw_X3_whyNoYoung at h
  show gx_W p l e (headSpec (ws_ yX3_whyNoYoung cX3_whyNoYoung 2 (some .int)) rmX3_whyNoYoung).room s m args below meth c 2 (tm_I D g cI cJ s M) 0 0 (MQ below (va_Qi Q (tm_B D g cI cJ s.heap.size) (tm_A g s.heap.size)) args s 0 0 (tm_A g s.heap.size)) 0 [(0, .ref (g 0)), (1, .int a1)] []
  refine gx_aload_n C dX3_whyNoYoung_0 rfl 0 rfl ?_
  refine tm_callv (rest := []) C hK (fun sz => tk_X3_laysRanges h) (cwV 0 C.t (lw_V q2489 q2491 qs66 q130 q2492) rfl rfl rfl ⟨rfl, dmX3_laysRanges⟩ ⟨Nat.le_of_ble_eq_true rfl, Nat.le_of_ble_eq_true rfl⟩) rfl rfl (Nat.le_of_ble_eq_true rfl) dX3_whyNoYoung_1 (fun M1 h => ?_)
  refine gx_aload_n C dX3_whyNoYoung_4 rfl 0 rfl ?_
  refine gx_iload_n C dX3_whyNoYoung_5 rfl 1 rfl ?_
  refine tm_calli (rest := []) C hK (fun sz => tk_X3_asksBox h) (cwV 1 C.t (lw_V q2419 q2421 qs53 q130 q2422) rfl rfl rfl ⟨rfl, dmX3_asksBox⟩ ⟨Nat.le_of_ble_eq_true rfl, Nat.le_of_ble_eq_true rfl⟩) rfl rfl (Nat.le_of_ble_eq_true rfl) dX3_whyNoYoung_6 (fun r6 M6 h => ?_)
  refine gx_if_eq (tgt := 20) C dX3_whyNoYoung_9 (by decide) (fun z => ?_) (fun z => ?_)
  · replace h := h.1 z
    refine gx_iconst (v := 0) C dX3_whyNoYoung_20 (by decide) ?_
    refine gx_sub [] rfl ?_
    exact tb_X3_whyNoYoung_21 C hK h
  · replace h := h.2 z
    refine gx_aload_n C dX3_whyNoYoung_12 rfl 0 rfl ?_
    refine gx_iload_n C dX3_whyNoYoung_13 rfl 1 rfl ?_
    refine tm_calli (rest := []) C hK (fun sz => tk_X3_reason h) (cwV 1 C.t (lw_V q2558 q2560 qs80 q130 q2561) rfl rfl rfl ⟨rfl, dmX3_reason⟩ ⟨Nat.le_of_ble_eq_true rfl, Nat.le_of_ble_eq_true rfl⟩) rfl rfl (Nat.le_of_ble_eq_true rfl) dX3_whyNoYoung_14 (fun r14 M14 h => ?_)
    refine gx_goto (tgt := 21) C dX3_whyNoYoung_17 (by decide) ?_
    refine gx_sub [] rfl ?_
    exact tb_X3_whyNoYoung_21 C hK h
/-! youngOf(I)I -/
abbrev rmX3_youngOf : Room := { frames := 8, cells := 0, slots := 0, locals := 181 }
theorem dmX3_youngOf : yX3_youngOf.cls ≠ "java/lang/invoke/MethodHandle" ∧ yX3_youngOf.cls ≠ "java/lang/invoke/VarHandle" ∧ (parseMethodDescriptor yX3_youngOf.desc).map (fun d => d.parameters.length) = some 1 := by decide +kernel
def tj_X3_youngOf_21 (M : MS) (s0 : Int32) (Q : Int32 → MS → Prop) : Prop :=
  Q s0 M
theorem tb_X3_youngOf_21 {l : Launch} {p : Program} {e : Env} {s : State} {m : MethodId} {args : Array Value} {below : List Frame} {meth : Method} {c : Code} {D : va_G} {g : Nat → Nat} {cI cJ : ClassId} (C : gx_C p s m args meth c cX3_youngOf 2 (some .int) RX3) (hK : va_K D gcl [(cI, .int), (cJ, .long)] s) {M : MS} {s0 : Int32} {Q : Int32 → MS → Prop} (h : tj_X3_youngOf_21 M s0 Q)  : gx_W p l e (headSpec (ws_ yX3_youngOf cX3_youngOf 2 (some .int)) rmX3_youngOf).room s m args below meth c 2 (tm_I D g cI cJ s M) 0 0 (MQ below (va_Qi Q (tm_B D g cI cJ s.heap.size) (tm_A g s.heap.size)) args s 0 0 (tm_A g s.heap.size)) 21 [] [.int s0] := by
  unfold tj_X3_youngOf_21 at h
  exact tm_iret C hK h dX3_youngOf_21
def tw_X3_youngOf (M : MS) (a1 : Int32) (Q : Int32 → MS → Prop) : Prop :=
  tw_X3_laysRanges M (fun M1 => tw_X3_asksBox M1 a1 (fun r6 M6 => ((r6 = 0 → tj_X3_youngOf_21 M6 0 Q) ∧ (¬ (r6 = 0) → tw_X3_young M6 a1 (fun r14 M14 => tj_X3_youngOf_21 M14 r14 Q)))))
theorem tk_X3_youngOf {l : Launch} {D : va_G} {g : Nat → Nat} {cI cJ : ClassId} {sz : Nat} {M : MS} {a1 : Int32} {Q : Int32 → MS → Prop} (h : tw_X3_youngOf M a1 Q) : tm_Met l yX3_youngOf cX3_youngOf 2 (some .int) rmX3_youngOf [.int a1] D g cI cJ sz M (va_Qi Q (tm_B D g cI cJ sz) (tm_A g sz)) := by
  refine tm_entry (by decide) (Nat.le_of_ble_eq_true rfl) (fun p e s m args below meth c hsz C hK => ?_)
  subst hsz
  unfold tw_X3_youngOf at h
  show gx_W p l e (headSpec (ws_ yX3_youngOf cX3_youngOf 2 (some .int)) rmX3_youngOf).room s m args below meth c 2 (tm_I D g cI cJ s M) 0 0 (MQ below (va_Qi Q (tm_B D g cI cJ s.heap.size) (tm_A g s.heap.size)) args s 0 0 (tm_A g s.heap.size)) 0 [(0, .ref (g 0)), (1, .int a1)] []
  refine gx_aload_n C dX3_youngOf_0 rfl 0 rfl ?_
  refine tm_callv (rest := []) C hK (fun sz => tk_X3_laysRanges h) (cwV 0 C.t (lw_V q2489 q2491 qs66 q130 q2492) rfl rfl rfl ⟨rfl, dmX3_laysRanges⟩ ⟨Nat.le_of_ble_eq_true rfl, Nat.le_of_ble_eq_true rfl⟩) rfl rfl (Nat.le_of_ble_eq_true rfl) dX3_youngOf_1 (fun M1 h => ?_)
  refine gx_aload_n C dX3_youngOf_4 rfl 0 rfl ?_
  refine gx_iload_n C dX3_youngOf_5 rfl 1 rfl ?_
  refine tm_calli (rest := []) C hK (fun sz => tk_X3_asksBox h) (cwV 1 C.t (lw_V q2419 q2421 qs53 q130 q2422) rfl rfl rfl ⟨rfl, dmX3_asksBox⟩ ⟨Nat.le_of_ble_eq_true rfl, Nat.le_of_ble_eq_true rfl⟩) rfl rfl (Nat.le_of_ble_eq_true rfl) dX3_youngOf_6 (fun r6 M6 h => ?_)
  refine gx_if_eq (tgt := 20) C dX3_youngOf_9 (by decide) (fun z => ?_) (fun z => ?_)
  · replace h := h.1 z
    refine gx_iconst (v := 0) C dX3_youngOf_20 (by decide) ?_
    refine gx_sub [] rfl ?_
    exact tb_X3_youngOf_21 C hK h
  · replace h := h.2 z
    refine gx_aload_n C dX3_youngOf_12 rfl 0 rfl ?_
    refine gx_iload_n C dX3_youngOf_13 rfl 1 rfl ?_
    refine tm_calli (rest := []) C hK (fun sz => tk_X3_young h) (cwV 1 C.t (lw_V q2554 q2556 qs79 q130 q2557) rfl rfl rfl ⟨rfl, dmX3_young⟩ ⟨Nat.le_of_ble_eq_true rfl, Nat.le_of_ble_eq_true rfl⟩) rfl rfl (Nat.le_of_ble_eq_true rfl) dX3_youngOf_14 (fun r14 M14 h => ?_)
    refine gx_goto (tgt := 21) C dX3_youngOf_17 (by decide) ?_
    refine gx_sub [] rfl ?_
    exact tb_X3_youngOf_21 C hK h
