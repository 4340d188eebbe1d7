set_option maxRecDepth 100000
set_option maxHeartbeats 4000000
abbrev rmX1_isWithin : Room := { frames := 0, cells := 0, slots := 0, locals := 0 }
theorem dmX1_isWithin : yX1_isWithin.cls ≠ "java/lang/invoke/MethodHandle" ∧ yX1_isWithin.cls ≠ "java/lang/invoke/VarHandle" ∧ (parseMethodDescriptor yX1_isWithin.desc).map (fun d => d.parameters.length) = some 3 := by decide +kernel
def pw_X1_isWithin (a0 : Int32) (a1 : Int32) (a2 : Int32) (Q : Int32 → Prop) : Prop :=
  Q (if a0 < a1 then 0 else (if a2 < a0 then 0 else 1))
theorem pk_X1_isWithin {l : Launch} {a0 : Int32} {a1 : Int32} {a2 : Int32} {Q : Int32 → Prop} (h : pw_X1_isWithin a0 a1 a2 Q) : Met l yX1_isWithin (ws_ yX1_isWithin cX1_isWithin 3 (some .boolean)) rmX1_isWithin (va_Pc [.int a0, .int a1, .int a2] (fun _ => True)) (vp_Si Q) 0 0 (fun _ => False) := by
  refine ps_entry (by decide) (Nat.le_of_ble_eq_true rfl) (fun p e s m args below meth c C => ?_)
  unfold pw_X1_isWithin at h
  show gx_W p l e (headSpec (ws_ yX1_isWithin cX1_isWithin 3 (some .boolean)) rmX1_isWithin).room s m args below meth c 3 (ps_I s) 0 0 (MQ below (vp_Si Q) args s 0 0 (fun _ => False)) 0 [(0, .int a0), (1, .int a1), (2, .int a2)] []
  refine gx_iload_n C dX1_isWithin_0 rfl 0 rfl ?_
  refine gx_iload_n C dX1_isWithin_1 rfl 1 rfl ?_
  refine gx_phii (t := (if a0 < a1 then 0 else (if a2 < a0 then 0 else 1))) (pc2 := 15) (lv2 := [(0, .int a0), (1, .int a1), (2, .int a2)]) (rest2 := []) (fun key => ?_) ?_
  · refine gx_icmp_lt (tgt := 14) C dX1_isWithin_2 (by decide) (fun z1 => ?_) (fun z1 => ?_)
    · refine gx_iconst (v := 0) C dX1_isWithin_14 (by decide) ?_
      exact gx_casti (if_pos z1) key
    · refine gx_iload_n C dX1_isWithin_5 rfl 0 rfl ?_
      refine gx_iload_n C dX1_isWithin_6 rfl 2 rfl ?_
      refine gx_icmp_gt (tgt := 14) C dX1_isWithin_7 (by decide) (fun z2 => ?_) (fun z2 => ?_)
      · refine gx_iconst (v := 0) C dX1_isWithin_14 (by decide) ?_
        exact gx_casti ((if_neg z1).trans (if_pos z2)) key
      · refine gx_iconst (v := 1) C dX1_isWithin_10 (by decide) ?_
        refine gx_goto (tgt := 15) C dX1_isWithin_11 (by decide) ?_
        exact gx_casti ((if_neg z1).trans (if_neg z2)) key
  exact ps_zret C (by repeat' (first | rfl | split)) h dX1_isWithin_15
abbrev rmX1_has : Room := { frames := 0, cells := 0, slots := 0, locals := 0 }
theorem dmX1_has : yX1_has.cls ≠ "java/lang/invoke/MethodHandle" ∧ yX1_has.cls ≠ "java/lang/invoke/VarHandle" ∧ (parseMethodDescriptor yX1_has.desc).map (fun d => d.parameters.length) = some 2 := by decide +kernel
def pw_X1_has (a0 : Int64) (a2 : Int32) (Q : Int32 → Prop) : Prop :=
  Q (if (lg_cmp ((a0 >>> (a2.toInt64 &&& 63)) &&& 1) 1) = 0 then 1 else 0)
theorem pk_X1_has {l : Launch} {a0 : Int64} {a2 : Int32} {Q : Int32 → Prop} (h : pw_X1_has a0 a2 Q) : Met l yX1_has (ws_ yX1_has cX1_has 3 (some .boolean)) rmX1_has (va_Pc [.long a0, .int a2] (fun _ => True)) (vp_Si Q) 0 0 (fun _ => False) := by
  refine ps_entry (by decide) (Nat.le_of_ble_eq_true rfl) (fun p e s m args below meth c C => ?_)
  unfold pw_X1_has at h
  show gx_W p l e (headSpec (ws_ yX1_has cX1_has 3 (some .boolean)) rmX1_has).room s m args below meth c 3 (ps_I s) 0 0 (MQ below (vp_Si Q) args s 0 0 (fun _ => False)) 0 [(0, .long a0), (2, .int a2)] []
  refine gx_lload_n C dX1_has_0 rfl 0 rfl ?_
  refine gx_iload_n C dX1_has_1 rfl 1 rfl ?_
  refine gx_lshr C dX1_has_2 rfl ?_
  refine gx_lconst (v := 1) C dX1_has_3 (by decide) ?_
  refine gx_land C dX1_has_4 ?_
  refine gx_lconst (v := 1) C dX1_has_5 (by decide) ?_
  refine gx_lcmp C dX1_has_6 ?_
  refine gx_phii (t := (if (lg_cmp ((a0 >>> (a2.toInt64 &&& 63)) &&& 1) 1) = 0 then 1 else 0)) (pc2 := 15) (lv2 := [(0, .long a0), (2, .int a2)]) (rest2 := []) (fun key => ?_) ?_
  · refine gx_if_ne (tgt := 14) C dX1_has_7 (by decide) (fun z1 => ?_) (fun z1 => ?_)
    · refine gx_iconst (v := 0) C dX1_has_14 (by decide) ?_
      exact gx_casti (if_neg z1) key
    · refine gx_iconst (v := 1) C dX1_has_10 (by decide) ?_
      refine gx_goto (tgt := 15) C dX1_has_11 (by decide) ?_
      exact gx_casti (if_pos z1) key
  exact ps_zret C (by repeat' (first | rfl | split)) h dX1_has_15
abbrev rmX1_far : Room := { frames := 1, cells := 0, slots := 0, locals := 21 }
theorem dmX1_far : yX1_far.cls ≠ "java/lang/invoke/MethodHandle" ∧ yX1_far.cls ≠ "java/lang/invoke/VarHandle" ∧ (parseMethodDescriptor yX1_far.desc).map (fun d => d.parameters.length) = some 2 := by decide +kernel
def pw_X1_far (a0 : Int32) (a1 : Int32) (Q : Int32 → Prop) : Prop :=
  Q (if (if 0 ≤ ((a0 / 8) - (a1 / 8)) then ((a0 / 8) - (a1 / 8)) else 0 - ((a0 / 8) - (a1 / 8))) < (if 0 ≤ ((a0 - a0 / 8 * 8) - (a1 - a1 / 8 * 8)) then ((a0 - a0 / 8 * 8) - (a1 - a1 / 8 * 8)) else 0 - ((a0 - a0 / 8 * 8) - (a1 - a1 / 8 * 8))) then (if 0 ≤ ((a0 - a0 / 8 * 8) - (a1 - a1 / 8 * 8)) then ((a0 - a0 / 8 * 8) - (a1 - a1 / 8 * 8)) else 0 - ((a0 - a0 / 8 * 8) - (a1 - a1 / 8 * 8))) else (if 0 ≤ ((a0 / 8) - (a1 / 8)) then ((a0 / 8) - (a1 / 8)) else 0 - ((a0 / 8) - (a1 / 8))))
theorem pk_X1_far {l : Launch} {a0 : Int32} {a1 : Int32} {Q : Int32 → Prop} (h : pw_X1_far a0 a1 Q) : Met l yX1_far (ws_ yX1_far cX1_far 2 (some .int)) rmX1_far (va_Pc [.int a0, .int a1] (fun _ => True)) (vp_Si Q) 0 0 (fun _ => False) := by
  refine ps_entry (by decide) (Nat.le_of_ble_eq_true rfl) (fun p e s m args below meth c C => ?_)
  unfold pw_X1_far at h
  show gx_W p l e (headSpec (ws_ yX1_far cX1_far 2 (some .int)) rmX1_far).room s m args below meth c 2 (ps_I s) 0 0 (MQ below (vp_Si Q) args s 0 0 (fun _ => False)) 0 [(0, .int a0), (1, .int a1)] []
  refine gx_iload_n C dX1_far_0 rfl 0 rfl ?_
  refine gx_bipush (v := 8) C dX1_far_1 (by decide) ?_
  refine gx_idiv C dX1_far_3 (by decide) ?_
  refine gx_iload_n C dX1_far_4 rfl 1 rfl ?_
  refine gx_bipush (v := 8) C dX1_far_5 (by decide) ?_
  refine gx_idiv C dX1_far_7 (by decide) ?_
  refine gx_isub C dX1_far_8 ?_
  refine gx_mabs (rest := []) C q1421 q1422 q140 q1423 (Nat.le_of_ble_eq_true rfl) (Nat.le_of_ble_eq_true rfl) ⟨Nat.zero_le _, Nat.zero_le _⟩ dX1_far_9 ?_
  refine gx_iload_n C dX1_far_12 rfl 0 rfl ?_
  refine gx_bipush (v := 8) C dX1_far_13 (by decide) ?_
  refine gx_irem C dX1_far_15 (by decide) ?_
  refine gx_iload_n C dX1_far_16 rfl 1 rfl ?_
  refine gx_bipush (v := 8) C dX1_far_17 (by decide) ?_
  refine gx_irem C dX1_far_19 (by decide) ?_
  refine gx_isub C dX1_far_20 ?_
  refine gx_mabs (rest := [.int ((if 0 ≤ ((a0 / 8) - (a1 / 8)) then ((a0 / 8) - (a1 / 8)) else 0 - ((a0 / 8) - (a1 / 8))))]) C q1421 q1422 q140 q1423 (Nat.le_of_ble_eq_true rfl) (Nat.le_of_ble_eq_true rfl) ⟨Nat.zero_le _, Nat.zero_le _⟩ dX1_far_21 ?_
  refine gx_mmax (rest := []) C q1424 q429 q140 q430 (Nat.le_of_ble_eq_true rfl) (Nat.le_of_ble_eq_true rfl) ⟨Nat.zero_le _, Nat.zero_le _⟩ dX1_far_24 ?_
  exact ps_iret C h dX1_far_27
abbrev rmX1_areBeside : Room := { frames := 1, cells := 0, slots := 0, locals := 20 }
theorem dmX1_areBeside : yX1_areBeside.cls ≠ "java/lang/invoke/MethodHandle" ∧ yX1_areBeside.cls ≠ "java/lang/invoke/VarHandle" ∧ (parseMethodDescriptor yX1_areBeside.desc).map (fun d => d.parameters.length) = some 2 := by decide +kernel
def pw_X1_areBeside (a0 : Int32) (a1 : Int32) (Q : Int32 → Prop) : Prop :=
  (narrow .boolean (.int (if ((if 0 ≤ ((a0 / 8) - (a1 / 8)) then ((a0 / 8) - (a1 / 8)) else 0 - ((a0 / 8) - (a1 / 8))) + (if 0 ≤ ((a0 - a0 / 8 * 8) - (a1 - a1 / 8 * 8)) then ((a0 - a0 / 8 * 8) - (a1 - a1 / 8 * 8)) else 0 - ((a0 - a0 / 8 * 8) - (a1 - a1 / 8 * 8)))) = 1 then 1 else 0)) = .int (if ((if 0 ≤ ((a0 / 8) - (a1 / 8)) then ((a0 / 8) - (a1 / 8)) else 0 - ((a0 / 8) - (a1 / 8))) + (if 0 ≤ ((a0 - a0 / 8 * 8) - (a1 - a1 / 8 * 8)) then ((a0 - a0 / 8 * 8) - (a1 - a1 / 8 * 8)) else 0 - ((a0 - a0 / 8 * 8) - (a1 - a1 / 8 * 8)))) = 1 then 1 else 0) ∧ Q (if ((if 0 ≤ ((a0 / 8) - (a1 / 8)) then ((a0 / 8) - (a1 / 8)) else 0 - ((a0 / 8) - (a1 / 8))) + (if 0 ≤ ((a0 - a0 / 8 * 8) - (a1 - a1 / 8 * 8)) then ((a0 - a0 / 8 * 8) - (a1 - a1 / 8 * 8)) else 0 - ((a0 - a0 / 8 * 8) - (a1 - a1 / 8 * 8)))) = 1 then 1 else 0))
theorem pk_X1_areBeside {l : Launch} {a0 : Int32} {a1 : Int32} {Q : Int32 → Prop} (h : pw_X1_areBeside a0 a1 Q) : Met l yX1_areBeside (ws_ yX1_areBeside cX1_areBeside 2 (some .boolean)) rmX1_areBeside (va_Pc [.int a0, .int a1] (fun _ => True)) (vp_Si Q) 0 0 (fun _ => False) := by
  refine ps_entry (by decide) (Nat.le_of_ble_eq_true rfl) (fun p e s m args below meth c C => ?_)
  unfold pw_X1_areBeside at h
  show gx_W p l e (headSpec (ws_ yX1_areBeside cX1_areBeside 2 (some .boolean)) rmX1_areBeside).room s m args below meth c 2 (ps_I s) 0 0 (MQ below (vp_Si Q) args s 0 0 (fun _ => False)) 0 [(0, .int a0), (1, .int a1)] []
  refine gx_iload_n C dX1_areBeside_0 rfl 0 rfl ?_
  refine gx_bipush (v := 8) C dX1_areBeside_1 (by decide) ?_
  refine gx_idiv C dX1_areBeside_3 (by decide) ?_
  refine gx_iload_n C dX1_areBeside_4 rfl 1 rfl ?_
  refine gx_bipush (v := 8) C dX1_areBeside_5 (by decide) ?_
  refine gx_idiv C dX1_areBeside_7 (by decide) ?_
  refine gx_isub C dX1_areBeside_8 ?_
  refine gx_mabs (rest := []) C q1421 q1422 q140 q1423 (Nat.le_of_ble_eq_true rfl) (Nat.le_of_ble_eq_true rfl) ⟨Nat.zero_le _, Nat.zero_le _⟩ dX1_areBeside_9 ?_
  refine gx_iload_n C dX1_areBeside_12 rfl 0 rfl ?_
  refine gx_bipush (v := 8) C dX1_areBeside_13 (by decide) ?_
  refine gx_irem C dX1_areBeside_15 (by decide) ?_
  refine gx_iload_n C dX1_areBeside_16 rfl 1 rfl ?_
  refine gx_bipush (v := 8) C dX1_areBeside_17 (by decide) ?_
  refine gx_irem C dX1_areBeside_19 (by decide) ?_
  refine gx_isub C dX1_areBeside_20 ?_
  refine gx_mabs (rest := [.int ((if 0 ≤ ((a0 / 8) - (a1 / 8)) then ((a0 / 8) - (a1 / 8)) else 0 - ((a0 / 8) - (a1 / 8))))]) C q1421 q1422 q140 q1423 (Nat.le_of_ble_eq_true rfl) (Nat.le_of_ble_eq_true rfl) ⟨Nat.zero_le _, Nat.zero_le _⟩ dX1_areBeside_21 ?_
  refine gx_iadd C dX1_areBeside_24 ?_
  refine gx_iconst (v := 1) C dX1_areBeside_25 (by decide) ?_
  refine gx_phii (t := (if ((if 0 ≤ ((a0 / 8) - (a1 / 8)) then ((a0 / 8) - (a1 / 8)) else 0 - ((a0 / 8) - (a1 / 8))) + (if 0 ≤ ((a0 - a0 / 8 * 8) - (a1 - a1 / 8 * 8)) then ((a0 - a0 / 8 * 8) - (a1 - a1 / 8 * 8)) else 0 - ((a0 - a0 / 8 * 8) - (a1 - a1 / 8 * 8)))) = 1 then 1 else 0)) (pc2 := 34) (lv2 := [(0, .int a0), (1, .int a1)]) (rest2 := []) (fun key => ?_) ?_
  · refine gx_icmp_ne (tgt := 33) C dX1_areBeside_26 (by decide) (fun z1 => ?_) (fun z1 => ?_)
    · refine gx_iconst (v := 0) C dX1_areBeside_33 (by decide) ?_
      exact gx_casti (if_neg z1) key
    · refine gx_iconst (v := 1) C dX1_areBeside_29 (by decide) ?_
      refine gx_goto (tgt := 34) C dX1_areBeside_30 (by decide) ?_
      exact gx_casti (if_pos z1) key
  obtain ⟨g34, h⟩ := h
  exact ps_zret C g34 h dX1_areBeside_34
/-! Land.isRoad(I)Z -/
abbrev rmX2_isRoad : Room := { frames := 0, cells := 0, slots := 0, locals := 0 }
theorem dmX2_isRoad : yX2_isRoad.cls ≠ "java/lang/invoke/MethodHandle" ∧ yX2_isRoad.cls ≠ "java/lang/invoke/VarHandle" ∧ (parseMethodDescriptor yX2_isRoad.desc).map (fun d => d.parameters.length) = some 1 := by decide +kernel
def lw_X2_isRoad (L : LSt) (a1 : Int32) (Q : Int32 → LSt → Prop) : Prop :=
  (vp_in a1 64 ∧ Q (if (ls_r L 0 a1) = 3 then 1 else 0) L)
theorem lk_X2_isRoad {l : Launch} {D : va_G} {t0 : Nat} {g : Nat → Nat} {ca : Nat → ClassId} {Z : va_W} {sz : Nat} {L : LSt} {a1 : Int32} {Q : Int32 → LSt → Prop} (h : lw_X2_isRoad L a1 Q) : lm_Met l yX2_isRoad cX2_isRoad 2 (some .boolean) rmX2_isRoad [.int a1] D t0 g ca Z sz L (va_Qi Q (lm_B D t0 g ca (va_A (lm_ws g ca L Z) sz)) (va_A (lm_ws g ca L Z) sz)) 0 0 := by
  refine lm_entry (by decide) (Nat.le_of_ble_eq_true rfl) (fun p e s m args below meth c A eA hA hG C hK => ?_)
  rw [eA]
  unfold lw_X2_isRoad at h
  show gx_W p l e (headSpec (ws_ yX2_isRoad cX2_isRoad 2 (some .boolean)) rmX2_isRoad).room s m args below meth c 2 (lm_I D t0 g ca A s L []) 0 0 (MQ below (va_Qi Q (lm_B D t0 g ca A) A) args s 0 0 A) 0 [(0, .ref (g 0)), (1, .int a1)] []
  refine gx_aload_n C dX2_isRoad_0 rfl 0 rfl ?_
  refine gw_get C hK in_X2 rfl ll_H0 0 (by decide) q232 rfl rfl dX2_isRoad_1 ?_
  refine gx_iload_n C dX2_isRoad_4 rfl 1 rfl ?_
  obtain ⟨g5, h⟩ := h
  refine gw_iald C hK ll_Ha0 g5 dX2_isRoad_5 ?_
  refine gx_iconst (v := 3) C dX2_isRoad_6 (by decide) ?_
  refine gx_phii (t := (if (ls_r L 0 a1) = 3 then 1 else 0)) (pc2 := 15) (lv2 := [(0, .ref (g 0)), (1, .int a1)]) (rest2 := []) (fun key => ?_) ?_
  · refine gx_icmp_ne (tgt := 14) C dX2_isRoad_7 (by decide) (fun z1 => ?_) (fun z1 => ?_)
    · refine gx_iconst (v := 0) C dX2_isRoad_14 (by decide) ?_
      exact gx_casti (if_neg z1) key
    · refine gx_iconst (v := 1) C dX2_isRoad_10 (by decide) ?_
      refine gx_goto (tgt := 15) C dX2_isRoad_11 (by decide) ?_
      exact gx_casti (if_pos z1) key
  exact lm_zret C (by repeat' (first | rfl | split)) h (Nat.le_refl _) (Nat.le_refl _) dX2_isRoad_15
/-! Land.box(I)LOwlYears$Box; -/
abbrev rmX2_box : Room := { frames := 3, cells := 0, slots := 0, locals := 64 }
theorem dmX2_box : yX2_box.cls ≠ "java/lang/invoke/MethodHandle" ∧ yX2_box.cls ≠ "java/lang/invoke/VarHandle" ∧ (parseMethodDescriptor yX2_box.desc).map (fun d => d.parameters.length) = some 1 := by decide +kernel
def lw_X2_box (L : LSt) (a1 : Int32) (Q : Option Nat → LSt → Prop) : Prop :=
  (vp_in a1 (ls_bx L).length ∧ ∀ o5 : Nat, o5 = (ls_bx L).getD a1.toNatClampNeg 0 → Q (some o5) L)
theorem lk_X2_box {l : Launch} {D : va_G} {t0 : Nat} {g : Nat → Nat} {ca : Nat → ClassId} {Z : va_W} {sz : Nat} {L : LSt} {a1 : Int32} {Q : Option Nat → LSt → Prop} (h : lw_X2_box L a1 Q) : lm_Met l yX2_box cX2_box 2 (some (.object "OwlYears$Box")) rmX2_box [.int a1] D t0 g ca Z sz L (va_Qq Q (lm_B D t0 g ca (va_A (lm_ws g ca L Z) sz)) (va_A (lm_ws g ca L Z) sz)) 0 0 := by
  refine lm_entry (by decide) (Nat.le_of_ble_eq_true rfl) (fun p e s m args below meth c A eA hA hG C hK => ?_)
  rw [eA]
  unfold lw_X2_box at h
  show gx_W p l e (headSpec (ws_ yX2_box cX2_box 2 (some (.object "OwlYears$Box"))) rmX2_box).room s m args below meth c 2 (lm_I D t0 g ca A s L []) 0 0 (MQ below (va_Qq Q (lm_B D t0 g ca A) A) args s 0 0 A) 0 [(0, .ref (g 0)), (1, .int a1)] []
  refine gx_aload_n C dX2_box_0 rfl 0 rfl ?_
  refine gw_get C hK in_X2 rfl ll_H0 3 (by decide) q237 rfl rfl dX2_box_1 ?_
  refine gx_iload_n C dX2_box_4 rfl 1 rfl ?_
  obtain ⟨g5, h⟩ := h
  refine al_rget C hK ll_bl g5 (cwV 1 C.t (lw_V q364 q365 q366 q123 q367) rfl rfl rfl ⟨rfl, dmJ2_get⟩ ⟨Nat.le_of_ble_eq_true rfl, Nat.le_of_ble_eq_true rfl⟩) (Nat.le_of_ble_eq_true rfl) ⟨Nat.zero_le _, Nat.zero_le _⟩ dX2_box_5 (fun o5 e_o5 => ?_)
  replace h := h o5 e_o5
  have m_o5 : o5 ∈ ls_bx L := e_o5 ▸ al_mem g5
  refine gw_cast C hK (ci := 4) rfl (ll_Hb m_o5) q378 dX2_box_8 ?_
  exact lm_qret (r := (some o5)) (Or.inl ⟨_, rfl⟩) C h (Nat.le_refl _) (Nat.le_refl _) dX2_box_11
/-! Land.near(I)J -/
abbrev rmX2_near : Room := { frames := 2, cells := 0, slots := 0, locals := 42 }
theorem dmX2_near : yX2_near.cls ≠ "java/lang/invoke/MethodHandle" ∧ yX2_near.cls ≠ "java/lang/invoke/VarHandle" ∧ (parseMethodDescriptor yX2_near.desc).map (fun d => d.parameters.length) = some 1 := by decide +kernel
def lj_X2_near_40 (L : LSt) (a1 : Int32) (a4 : Int32) (s0 : Int64) (s1 : Int64) (k5 : LSt → Int32 → Int64 → Int32 → Prop) (Q : Int64 → LSt → Prop) : Prop :=
  k5 L a1 (s0 ||| s1) (a4 + 1)
theorem lb_X2_near_40 {l : Launch} {p : Program} {e : Env} {s : State} {m : MethodId} {args : Array Value} {below : List Frame} {meth : Method} {c : Code} {D : va_G} {t0 : Nat} {g : Nat → Nat} {ca : Nat → ClassId} {A : Nat → Prop} (C : gx_C p s m args meth c cX2_near 5 (some .long) RX2) (hK : gK D ca s) (hG : gZ t0 A s) (hA : ∀ q, s.heap.size ≤ q → A q) {L : LSt} {a1 : Int32} {a4 : Int32} {s0 : Int64} {s1 : Int64} {k5 : LSt → Int32 → Int64 → Int32 → Prop} {Q : Int64 → LSt → Prop} (h : lj_X2_near_40 L a1 a4 s0 s1 k5 Q) (hk5 : ∀ (L : LSt) (a1 : Int32) (a2 : Int64) (a4 : Int32), k5 L a1 a2 a4 → gx_W p l e (headSpec (ws_ yX2_near cX2_near 5 (some .long)) rmX2_near).room s m args below meth c 5 (lm_I D t0 g ca A s L []) 0 0 (MQ below (va_Ql Q (lm_B D t0 g ca A) A) args s 0 0 A) 5 [(0, .ref (g 0)), (1, .int a1), (2, .long a2), (4, .int a4)] []) : gx_W p l e (headSpec (ws_ yX2_near cX2_near 5 (some .long)) rmX2_near).room s m args below meth c 5 (lm_I D t0 g ca A s L []) 0 0 (MQ below (va_Ql Q (lm_B D t0 g ca A) A) args s 0 0 A) 40 [(0, .ref (g 0)), (1, .int a1), (4, .int a4)] [.long s1, .long s0] := by
  unfold lj_X2_near_40 at h
  refine gx_lor C dX2_near_40 ?_
  refine gx_lstore_n (lv' := [(2, .long (s0 ||| s1)), (0, .ref (g 0)), (1, .int a1), (4, .int a4)]) C dX2_near_41 rfl (by decide) rfl ?_
  refine gx_iinc (v := a4 + 1) (k := 3) (lv' := [(4, .int (a4 + 1)), (2, .long (s0 ||| s1)), (0, .ref (g 0)), (1, .int a1)]) C dX2_near_42 rfl rfl (by decide) rfl ?_
  refine gx_goto (tgt := 5) C dX2_near_45 (by decide) ?_
  refine gx_sub [2, 3, 1, 0] rfl ?_
  exact hk5 L a1 (s0 ||| s1) (a4 + 1) h
def lj_X2_near_39 (L : LSt) (a1 : Int32) (a4 : Int32) (s0 : Int64) (k5 : LSt → Int32 → Int64 → Int32 → Prop) (Q : Int64 → LSt → Prop) : Prop :=
  lj_X2_near_40 L a1 a4 s0 0 k5 Q
theorem lb_X2_near_39 {l : Launch} {p : Program} {e : Env} {s : State} {m : MethodId} {args : Array Value} {below : List Frame} {meth : Method} {c : Code} {D : va_G} {t0 : Nat} {g : Nat → Nat} {ca : Nat → ClassId} {A : Nat → Prop} (C : gx_C p s m args meth c cX2_near 5 (some .long) RX2) (hK : gK D ca s) (hG : gZ t0 A s) (hA : ∀ q, s.heap.size ≤ q → A q) {L : LSt} {a1 : Int32} {a4 : Int32} {s0 : Int64} {k5 : LSt → Int32 → Int64 → Int32 → Prop} {Q : Int64 → LSt → Prop} (h : lj_X2_near_39 L a1 a4 s0 k5 Q) (hk5 : ∀ (L : LSt) (a1 : Int32) (a2 : Int64) (a4 : Int32), k5 L a1 a2 a4 → gx_W p l e (headSpec (ws_ yX2_near cX2_near 5 (some .long)) rmX2_near).room s m args below meth c 5 (lm_I D t0 g ca A s L []) 0 0 (MQ below (va_Ql Q (lm_B D t0 g ca A) A) args s 0 0 A) 5 [(0, .ref (g 0)), (1, .int a1), (2, .long a2), (4, .int a4)] []) : gx_W p l e (headSpec (ws_ yX2_near cX2_near 5 (some .long)) rmX2_near).room s m args below meth c 5 (lm_I D t0 g ca A s L []) 0 0 (MQ below (va_Ql Q (lm_B D t0 g ca A) A) args s 0 0 A) 39 [(0, .ref (g 0)), (1, .int a1), (4, .int a4)] [.long s0] := by
  unfold lj_X2_near_39 at h
  refine gx_lconst (v := 0) C dX2_near_39 (by decide) ?_
  exact lb_X2_near_40 C hK hG hA h hk5
def lj_X2_near_5 (L : LSt) (a1 : Int32) (a2 : Int64) (a4 : Int32) (k5 : LSt → Int32 → Int64 → Int32 → Prop) (Q : Int64 → LSt → Prop) : Prop :=
  ((64 ≤ a4 → Q a2 L) ∧ (¬ (64 ≤ a4) → pw_X1_far a4 a1 (fun r16 => ((2 < r16 → lj_X2_near_39 L a1 a4 a2 k5 Q) ∧ (¬ (2 < r16) → lw_X2_isRoad L a4 (fun r26 L26 => ((r26 = 0 → lj_X2_near_40 L26 a1 a4 a2 ((1 : Int64) <<< (a4.toInt64 &&& 63)) k5 Q) ∧ (¬ (r26 = 0) → lj_X2_near_39 L26 a1 a4 a2 k5 Q))))))))
theorem lb_X2_near_5 {l : Launch} {p : Program} {e : Env} {s : State} {m : MethodId} {args : Array Value} {below : List Frame} {meth : Method} {c : Code} {D : va_G} {t0 : Nat} {g : Nat → Nat} {ca : Nat → ClassId} {A : Nat → Prop} (C : gx_C p s m args meth c cX2_near 5 (some .long) RX2) (hK : gK D ca s) (hG : gZ t0 A s) (hA : ∀ q, s.heap.size ≤ q → A q) {L : LSt} {a1 : Int32} {a2 : Int64} {a4 : Int32} {k5 : LSt → Int32 → Int64 → Int32 → Prop} {Q : Int64 → LSt → Prop} (h : lj_X2_near_5 L a1 a2 a4 k5 Q) (hk5 : ∀ (L : LSt) (a1 : Int32) (a2 : Int64) (a4 : Int32), k5 L a1 a2 a4 → gx_W p l e (headSpec (ws_ yX2_near cX2_near 5 (some .long)) rmX2_near).room s m args below meth c 5 (lm_I D t0 g ca A s L []) 0 0 (MQ below (va_Ql Q (lm_B D t0 g ca A) A) args s 0 0 A) 5 [(0, .ref (g 0)), (1, .int a1), (2, .long a2), (4, .int a4)] []) : gx_W p l e (headSpec (ws_ yX2_near cX2_near 5 (some .long)) rmX2_near).room s m args below meth c 5 (lm_I D t0 g ca A s L []) 0 0 (MQ below (va_Ql Q (lm_B D t0 g ca A) A) args s 0 0 A) 5 [(0, .ref (g 0)), (1, .int a1), (2, .long a2), (4, .int a4)] [] := by
  unfold lj_X2_near_5 at h
  refine gx_iload C dX2_near_5 3 rfl ?_
  refine gx_bipush (v := 64) C dX2_near_7 (by decide) ?_
  refine gx_icmp_ge (tgt := 48) C dX2_near_9 (by decide) (fun z => ?_) (fun z => ?_)
  · replace h := h.1 z
    refine gx_lload_n C dX2_near_48 rfl 2 rfl ?_
    exact lm_lret C h (Nat.le_refl _) (Nat.le_refl _) dX2_near_49
  · replace h := h.2 z
    refine gx_lload_n C dX2_near_12 rfl 2 rfl ?_
    refine gx_iload C dX2_near_13 3 rfl ?_
    refine gx_iload_n C dX2_near_15 rfl 1 rfl ?_
    refine gw_callsN (rest := [.long a2]) C (pk_X1_far h) ⟨va_cnB 2 C.t (lw_meth q1420) rfl rfl rfl (hK.2.2.1 _ _ _ _ q1418) (C.t _ q119) dmX1_far ⟨Nat.le_of_ble_eq_true rfl, Nat.le_of_ble_eq_true rfl⟩, C.t _ q1419, trivial⟩ rfl rfl (Nat.le_of_ble_eq_true rfl) ⟨Nat.zero_le _, Nat.zero_le _⟩ dX2_near_16 (fun r16 h => ?_)
    refine gx_iconst (v := 2) C dX2_near_19 (by decide) ?_
    refine gx_icmp_gt (tgt := 39) C dX2_near_20 (by decide) (fun z => ?_) (fun z => ?_)
    · replace h := h.1 z
      refine gx_sub [0, 1, 3] rfl ?_
      exact lb_X2_near_39 C hK hG hA h hk5
    · replace h := h.2 z
      refine gx_aload_n C dX2_near_23 rfl 0 rfl ?_
      refine gx_iload C dX2_near_24 3 rfl ?_
      refine lm_calli (rest := [.long a2]) C hK hG hA (fun Z sz => lk_X2_isRoad h) (cwV 1 C.t (lw_V q1390 q1391 q1392 q120 q1393) rfl rfl rfl ⟨rfl, dmX2_isRoad⟩ ⟨Nat.le_of_ble_eq_true rfl, Nat.le_of_ble_eq_true rfl⟩) rfl rfl (Nat.le_of_ble_eq_true rfl) ⟨Nat.zero_le _, Nat.zero_le _⟩ dX2_near_26 (fun r26 L26 h => ?_)
      refine gx_if_ne (tgt := 39) C dX2_near_29 (by decide) (fun z => ?_) (fun z => ?_)
      · replace h := h.2 z
        refine gx_sub [0, 1, 3] rfl ?_
        exact lb_X2_near_39 C hK hG hA h hk5
      · replace h := h.1 z
        refine gx_lconst (v := 1) C dX2_near_32 (by decide) ?_
        refine gx_iload C dX2_near_33 3 rfl ?_
        refine gx_lshl C dX2_near_35 rfl ?_
        refine gx_goto (tgt := 40) C dX2_near_36 (by decide) ?_
        refine gx_sub [0, 1, 3] rfl ?_
        exact lb_X2_near_40 C hK hG hA h hk5
def ll_X2_near_5 (Q : Int64 → LSt → Prop) : Nat → LSt → Int32 → Int64 → Int32 → Prop
  | 0, _, _, _, _ => False
  | n + 1, L, a1, a2, a4 => lj_X2_near_5 L a1 a2 a4 (fun L a1 a2 a4 => ll_X2_near_5 Q n L a1 a2 a4) Q
theorem le_X2_near_5 {l : Launch} {p : Program} {e : Env} {s : State} {m : MethodId} {args : Array Value} {below : List Frame} {meth : Method} {c : Code} {D : va_G} {t0 : Nat} {g : Nat → Nat} {ca : Nat → ClassId} {A : Nat → Prop} (C : gx_C p s m args meth c cX2_near 5 (some .long) RX2) (hK : gK D ca s) (hG : gZ t0 A s) (hA : ∀ q, s.heap.size ≤ q → A q) {Q : Int64 → LSt → Prop}  (n : Nat) : ∀ (L : LSt) (a1 : Int32) (a2 : Int64) (a4 : Int32), ll_X2_near_5 Q n L a1 a2 a4 → gx_W p l e (headSpec (ws_ yX2_near cX2_near 5 (some .long)) rmX2_near).room s m args below meth c 5 (lm_I D t0 g ca A s L []) 0 0 (MQ below (va_Ql Q (lm_B D t0 g ca A) A) args s 0 0 A) 5 [(0, .ref (g 0)), (1, .int a1), (2, .long a2), (4, .int a4)] [] := by
  induction n with
  | zero => intro L a1 a2 a4 h; exact False.elim h
  | succ n ih => intro L a1 a2 a4 h; exact lb_X2_near_5 C hK hG hA (show lj_X2_near_5 L a1 a2 a4 (fun L a1 a2 a4 => ll_X2_near_5 Q n L a1 a2 a4) Q from h) (fun L a1 a2 a4 h => ih L a1 a2 a4 h)
def lw_X2_near (L : LSt) (a1 : Int32) (Q : Int64 → LSt → Prop) : Prop :=
  ∃ n : Nat, ll_X2_near_5 Q n L a1 0 0
theorem lk_X2_near {l : Launch} {D : va_G} {t0 : Nat} {g : Nat → Nat} {ca : Nat → ClassId} {Z : va_W} {sz : Nat} {L : LSt} {a1 : Int32} {Q : Int64 → LSt → Prop} (h : lw_X2_near L a1 Q) : lm_Met l yX2_near cX2_near 5 (some .long) rmX2_near [.int a1] D t0 g ca Z sz L (va_Ql Q (lm_B D t0 g ca (va_A (lm_ws g ca L Z) sz)) (va_A (lm_ws g ca L Z) sz)) 0 0 := by
  refine lm_entry (by decide) (Nat.le_of_ble_eq_true rfl) (fun p e s m args below meth c A eA hA hG C hK => ?_)
  rw [eA]
  unfold lw_X2_near at h
  show gx_W p l e (headSpec (ws_ yX2_near cX2_near 5 (some .long)) rmX2_near).room s m args below meth c 5 (lm_I D t0 g ca A s L []) 0 0 (MQ below (va_Ql Q (lm_B D t0 g ca A) A) args s 0 0 A) 0 [(0, .ref (g 0)), (1, .int a1)] []
  refine gx_lconst (v := 0) C dX2_near_0 (by decide) ?_
  refine gx_lstore_n (lv' := [(2, .long 0), (0, .ref (g 0)), (1, .int a1)]) C dX2_near_1 rfl (by decide) rfl ?_
  refine gx_iconst (v := 0) C dX2_near_2 (by decide) ?_
  refine gx_istore (lv' := [(4, .int 0), (2, .long 0), (0, .ref (g 0)), (1, .int a1)]) C dX2_near_3 (by decide) rfl ?_
  refine gx_sub [2, 3, 1, 0] rfl ?_
  obtain ⟨n, h⟩ := h
  exact le_X2_near_5 C hK hG hA n L a1 0 0 h
/-! Land.touches(JI)Z -/
abbrev rmX2_touches : Room := { frames := 1, cells := 0, slots := 0, locals := 22 }
theorem dmX2_touches : yX2_touches.cls ≠ "java/lang/invoke/MethodHandle" ∧ yX2_touches.cls ≠ "java/lang/invoke/VarHandle" ∧ (parseMethodDescriptor yX2_touches.desc).map (fun d => d.parameters.length) = some 2 := by decide +kernel
def pj_X2_touches_85 (s0 : Int32) (Q : Int32 → Prop) : Prop :=
  (narrow .boolean (.int s0) = .int s0 ∧ Q s0)
theorem pb_X2_touches_85 {l : Launch} {p : Program} {e : Env} {s : State} {m : MethodId} {args : Array Value} {below : List Frame} {meth : Method} {c : Code} {D : va_G} {ca : Nat → ClassId} (C : gx_C p s m args meth c cX2_touches 4 (some .boolean) RX2) (hK : gK D ca s) {s0 : Int32} {Q : Int32 → Prop} (h : pj_X2_touches_85 s0 Q)  : gx_W p l e (headSpec (ws_ yX2_touches cX2_touches 4 (some .boolean)) rmX2_touches).room s m args below meth c 4 (ps_I s) 0 0 (MQ below (vp_Si Q) args s 0 0 (fun _ => False)) 85 [] [.int s0] := by
  unfold pj_X2_touches_85 at h
  obtain ⟨g85, h⟩ := h
  exact ps_zret C g85 h dX2_touches_85
def pj_X2_touches_84 (Q : Int32 → Prop) : Prop :=
  pj_X2_touches_85 0 Q
theorem pb_X2_touches_84 {l : Launch} {p : Program} {e : Env} {s : State} {m : MethodId} {args : Array Value} {below : List Frame} {meth : Method} {c : Code} {D : va_G} {ca : Nat → ClassId} (C : gx_C p s m args meth c cX2_touches 4 (some .boolean) RX2) (hK : gK D ca s) {Q : Int32 → Prop} (h : pj_X2_touches_84 Q)  : gx_W p l e (headSpec (ws_ yX2_touches cX2_touches 4 (some .boolean)) rmX2_touches).room s m args below meth c 4 (ps_I s) 0 0 (MQ below (vp_Si Q) args s 0 0 (fun _ => False)) 84 [] [] := by
  unfold pj_X2_touches_84 at h
  refine gx_iconst (v := 0) C dX2_touches_84 (by decide) ?_
  exact pb_X2_touches_85 C hK h
def pj_X2_touches_80 (Q : Int32 → Prop) : Prop :=
  pj_X2_touches_85 1 Q
theorem pb_X2_touches_80 {l : Launch} {p : Program} {e : Env} {s : State} {m : MethodId} {args : Array Value} {below : List Frame} {meth : Method} {c : Code} {D : va_G} {ca : Nat → ClassId} (C : gx_C p s m args meth c cX2_touches 4 (some .boolean) RX2) (hK : gK D ca s) {Q : Int32 → Prop} (h : pj_X2_touches_80 Q)  : gx_W p l e (headSpec (ws_ yX2_touches cX2_touches 4 (some .boolean)) rmX2_touches).room s m args below meth c 4 (ps_I s) 0 0 (MQ below (vp_Si Q) args s 0 0 (fun _ => False)) 80 [] [] := by
  unfold pj_X2_touches_80 at h
  refine gx_iconst (v := 1) C dX2_touches_80 (by decide) ?_
  refine gx_goto (tgt := 85) C dX2_touches_81 (by decide) ?_
  exact pb_X2_touches_85 C hK h
def pj_X2_touches_61 (a0 : Int64) (a2 : Int32) (Q : Int32 → Prop) : Prop :=
  ((7 ≤ (a2 - a2 / 8 * 8) → pj_X2_touches_84 Q) ∧ (¬ (7 ≤ (a2 - a2 / 8 * 8)) → pw_X1_has a0 (a2 + 1) (fun r74 => ((r74 = 0 → pj_X2_touches_84 Q) ∧ (¬ (r74 = 0) → pj_X2_touches_80 Q)))))
theorem pb_X2_touches_61 {l : Launch} {p : Program} {e : Env} {s : State} {m : MethodId} {args : Array Value} {below : List Frame} {meth : Method} {c : Code} {D : va_G} {ca : Nat → ClassId} (C : gx_C p s m args meth c cX2_touches 4 (some .boolean) RX2) (hK : gK D ca s) {a0 : Int64} {a2 : Int32} {Q : Int32 → Prop} (h : pj_X2_touches_61 a0 a2 Q)  : gx_W p l e (headSpec (ws_ yX2_touches cX2_touches 4 (some .boolean)) rmX2_touches).room s m args below meth c 4 (ps_I s) 0 0 (MQ below (vp_Si Q) args s 0 0 (fun _ => False)) 61 [(0, .long a0), (2, .int a2)] [] := by
  unfold pj_X2_touches_61 at h
  refine gx_iload_n C dX2_touches_61 rfl 1 rfl ?_
  refine gx_bipush (v := 8) C dX2_touches_62 (by decide) ?_
  refine gx_irem C dX2_touches_64 (by decide) ?_
  refine gx_bipush (v := 7) C dX2_touches_65 (by decide) ?_
  refine gx_icmp_ge (tgt := 84) C dX2_touches_67 (by decide) (fun z => ?_) (fun z => ?_)
  · replace h := h.1 z
    refine gx_sub [] rfl ?_
    exact pb_X2_touches_84 C hK h
  · replace h := h.2 z
    refine gx_lload_n C dX2_touches_70 rfl 0 rfl ?_
    refine gx_iload_n C dX2_touches_71 rfl 1 rfl ?_
    refine gx_iconst (v := 1) C dX2_touches_72 (by decide) ?_
    refine gx_iadd C dX2_touches_73 ?_
    refine gw_callsN (rest := []) C (pk_X1_has h) ⟨va_cnB 2 C.t (lw_meth q1427) rfl rfl rfl (hK.2.2.1 _ _ _ _ q1425) (C.t _ q119) dmX1_has ⟨Nat.le_of_ble_eq_true rfl, Nat.le_of_ble_eq_true rfl⟩, C.t _ q1426, trivial⟩ rfl rfl (Nat.le_of_ble_eq_true rfl) ⟨Nat.le_of_ble_eq_true rfl, Nat.le_of_ble_eq_true rfl⟩ dX2_touches_74 (fun r74 h => ?_)
    refine gx_if_eq (tgt := 84) C dX2_touches_77 (by decide) (fun z => ?_) (fun z => ?_)
    · replace h := h.1 z
      refine gx_sub [] rfl ?_
      exact pb_X2_touches_84 C hK h
    · replace h := h.2 z
      refine gx_sub [] rfl ?_
      exact pb_X2_touches_80 C hK h
def pj_X2_touches_39 (a0 : Int64) (a2 : Int32) (s0 : Int32) (Q : Int32 → Prop) : Prop :=
  ((s0 = 0 → (((a2 - a2 / 8 * 8) ≤ 0 → pj_X2_touches_61 a0 a2 Q) ∧ (¬ (a2 - a2 / 8 * 8) ≤ 0 → pw_X1_has a0 (a2 - 1) (fun r55 => ((r55 = 0 → pj_X2_touches_61 a0 a2 Q) ∧ (¬ (r55 = 0) → pj_X2_touches_80 Q)))))) ∧ (¬ (s0 = 0) → pj_X2_touches_80 Q))
theorem pb_X2_touches_39 {l : Launch} {p : Program} {e : Env} {s : State} {m : MethodId} {args : Array Value} {below : List Frame} {meth : Method} {c : Code} {D : va_G} {ca : Nat → ClassId} (C : gx_C p s m args meth c cX2_touches 4 (some .boolean) RX2) (hK : gK D ca s) {a0 : Int64} {a2 : Int32} {s0 : Int32} {Q : Int32 → Prop} (h : pj_X2_touches_39 a0 a2 s0 Q)  : gx_W p l e (headSpec (ws_ yX2_touches cX2_touches 4 (some .boolean)) rmX2_touches).room s m args below meth c 4 (ps_I s) 0 0 (MQ below (vp_Si Q) args s 0 0 (fun _ => False)) 39 [(0, .long a0), (2, .int a2)] [.int s0] := by
  unfold pj_X2_touches_39 at h
  refine gx_istore_n (lv' := [(3, .int s0), (0, .long a0), (2, .int a2)]) C dX2_touches_39 rfl (by decide) rfl ?_
  refine gx_iload_n C dX2_touches_40 rfl 0 rfl ?_
  refine gx_if_ne (tgt := 80) C dX2_touches_41 (by decide) (fun z => ?_) (fun z => ?_)
  · replace h := h.2 z
    refine gx_sub [] rfl ?_
    exact pb_X2_touches_80 C hK h
  · replace h := h.1 z
    refine gx_iload_n C dX2_touches_44 rfl 2 rfl ?_
    refine gx_bipush (v := 8) C dX2_touches_45 (by decide) ?_
    refine gx_irem C dX2_touches_47 (by decide) ?_
    refine gx_if_le (tgt := 61) C dX2_touches_48 (by decide) (fun z => ?_) (fun z => ?_)
    · replace h := h.1 z
      refine gx_sub [1, 2] rfl ?_
      exact pb_X2_touches_61 C hK h
    · replace h := h.2 z
      refine gx_lload_n C dX2_touches_51 rfl 1 rfl ?_
      refine gx_iload_n C dX2_touches_52 rfl 2 rfl ?_
      refine gx_iconst (v := 1) C dX2_touches_53 (by decide) ?_
      refine gx_isub C dX2_touches_54 ?_
      refine gw_callsN (rest := []) C (pk_X1_has h) ⟨va_cnB 2 C.t (lw_meth q1427) rfl rfl rfl (hK.2.2.1 _ _ _ _ q1425) (C.t _ q119) dmX1_has ⟨Nat.le_of_ble_eq_true rfl, Nat.le_of_ble_eq_true rfl⟩, C.t _ q1426, trivial⟩ rfl rfl (Nat.le_of_ble_eq_true rfl) ⟨Nat.le_of_ble_eq_true rfl, Nat.le_of_ble_eq_true rfl⟩ dX2_touches_55 (fun r55 h => ?_)
      refine gx_if_ne (tgt := 80) C dX2_touches_58 (by decide) (fun z => ?_) (fun z => ?_)
      · replace h := h.2 z
        refine gx_sub [] rfl ?_
        exact pb_X2_touches_80 C hK h
      · replace h := h.1 z
        refine gx_sub [1, 2] rfl ?_
        exact pb_X2_touches_61 C hK h
def pj_X2_touches_38 (a0 : Int64) (a2 : Int32) (Q : Int32 → Prop) : Prop :=
  pj_X2_touches_39 a0 a2 0 Q
theorem pb_X2_touches_38 {l : Launch} {p : Program} {e : Env} {s : State} {m : MethodId} {args : Array Value} {below : List Frame} {meth : Method} {c : Code} {D : va_G} {ca : Nat → ClassId} (C : gx_C p s m args meth c cX2_touches 4 (some .boolean) RX2) (hK : gK D ca s) {a0 : Int64} {a2 : Int32} {Q : Int32 → Prop} (h : pj_X2_touches_38 a0 a2 Q)  : gx_W p l e (headSpec (ws_ yX2_touches cX2_touches 4 (some .boolean)) rmX2_touches).room s m args below meth c 4 (ps_I s) 0 0 (MQ below (vp_Si Q) args s 0 0 (fun _ => False)) 38 [(0, .long a0), (2, .int a2)] [] := by
  unfold pj_X2_touches_38 at h
  refine gx_iconst (v := 0) C dX2_touches_38 (by decide) ?_
  exact pb_X2_touches_39 C hK h
def pj_X2_touches_34 (a0 : Int64) (a2 : Int32) (Q : Int32 → Prop) : Prop :=
  pj_X2_touches_39 a0 a2 1 Q
theorem pb_X2_touches_34 {l : Launch} {p : Program} {e : Env} {s : State} {m : MethodId} {args : Array Value} {below : List Frame} {meth : Method} {c : Code} {D : va_G} {ca : Nat → ClassId} (C : gx_C p s m args meth c cX2_touches 4 (some .boolean) RX2) (hK : gK D ca s) {a0 : Int64} {a2 : Int32} {Q : Int32 → Prop} (h : pj_X2_touches_34 a0 a2 Q)  : gx_W p l e (headSpec (ws_ yX2_touches cX2_touches 4 (some .boolean)) rmX2_touches).room s m args below meth c 4 (ps_I s) 0 0 (MQ below (vp_Si Q) args s 0 0 (fun _ => False)) 34 [(0, .long a0), (2, .int a2)] [] := by
  unfold pj_X2_touches_34 at h
  refine gx_iconst (v := 1) C dX2_touches_34 (by decide) ?_
  refine gx_goto (tgt := 39) C dX2_touches_35 (by decide) ?_
  exact pb_X2_touches_39 C hK h
def pj_X2_touches_17 (a0 : Int64) (a2 : Int32) (Q : Int32 → Prop) : Prop :=
  ((56 ≤ a2 → pj_X2_touches_38 a0 a2 Q) ∧ (¬ (56 ≤ a2) → pw_X1_has a0 (a2 + 8) (fun r28 => ((r28 = 0 → pj_X2_touches_38 a0 a2 Q) ∧ (¬ (r28 = 0) → pj_X2_touches_34 a0 a2 Q)))))
theorem pb_X2_touches_17 {l : Launch} {p : Program} {e : Env} {s : State} {m : MethodId} {args : Array Value} {below : List Frame} {meth : Method} {c : Code} {D : va_G} {ca : Nat → ClassId} (C : gx_C p s m args meth c cX2_touches 4 (some .boolean) RX2) (hK : gK D ca s) {a0 : Int64} {a2 : Int32} {Q : Int32 → Prop} (h : pj_X2_touches_17 a0 a2 Q)  : gx_W p l e (headSpec (ws_ yX2_touches cX2_touches 4 (some .boolean)) rmX2_touches).room s m args below meth c 4 (ps_I s) 0 0 (MQ below (vp_Si Q) args s 0 0 (fun _ => False)) 17 [(0, .long a0), (2, .int a2)] [] := by
  unfold pj_X2_touches_17 at h
  refine gx_iload_n C dX2_touches_17 rfl 1 rfl ?_
  refine gx_bipush (v := 56) C dX2_touches_18 (by decide) ?_
  refine gx_icmp_ge (tgt := 38) C dX2_touches_20 (by decide) (fun z => ?_) (fun z => ?_)
  · replace h := h.1 z
    exact pb_X2_touches_38 C hK h
  · replace h := h.2 z
    refine gx_lload_n C dX2_touches_23 rfl 0 rfl ?_
    refine gx_iload_n C dX2_touches_24 rfl 1 rfl ?_
    refine gx_bipush (v := 8) C dX2_touches_25 (by decide) ?_
    refine gx_iadd C dX2_touches_27 ?_
    refine gw_callsN (rest := []) C (pk_X1_has h) ⟨va_cnB 2 C.t (lw_meth q1427) rfl rfl rfl (hK.2.2.1 _ _ _ _ q1425) (C.t _ q119) dmX1_has ⟨Nat.le_of_ble_eq_true rfl, Nat.le_of_ble_eq_true rfl⟩, C.t _ q1426, trivial⟩ rfl rfl (Nat.le_of_ble_eq_true rfl) ⟨Nat.le_of_ble_eq_true rfl, Nat.le_of_ble_eq_true rfl⟩ dX2_touches_28 (fun r28 h => ?_)
    refine gx_if_eq (tgt := 38) C dX2_touches_31 (by decide) (fun z => ?_) (fun z => ?_)
    · replace h := h.1 z
      exact pb_X2_touches_38 C hK h
    · replace h := h.2 z
      exact pb_X2_touches_34 C hK h
def pw_X2_touches (a0 : Int64) (a2 : Int32) (Q : Int32 → Prop) : Prop :=
  ((a2 < 8 → pj_X2_touches_17 a0 a2 Q) ∧ (¬ (a2 < 8) → pw_X1_has a0 (a2 - 8) (fun r11 => ((r11 = 0 → pj_X2_touches_17 a0 a2 Q) ∧ (¬ (r11 = 0) → pj_X2_touches_34 a0 a2 Q)))))
theorem pk_X2_touches {l : Launch} {D : va_G} {ca : Nat → ClassId} {a0 : Int64} {a2 : Int32} {Q : Int32 → Prop} (h : pw_X2_touches a0 a2 Q) : Met l yX2_touches (ws_ yX2_touches cX2_touches 4 (some .boolean)) rmX2_touches (va_Pc [.long a0, .int a2] (gK D ca)) (vp_Si Q) 0 0 (fun _ => False) := by
  refine psK_entry (by decide) (Nat.le_of_ble_eq_true rfl) (fun p e s m args below meth c C hK => ?_)
  unfold pw_X2_touches at h
  show gx_W p l e (headSpec (ws_ yX2_touches cX2_touches 4 (some .boolean)) rmX2_touches).room s m args below meth c 4 (ps_I s) 0 0 (MQ below (vp_Si Q) args s 0 0 (fun _ => False)) 0 [(0, .long a0), (2, .int a2)] []
  refine gx_iload_n C dX2_touches_0 rfl 1 rfl ?_
  refine gx_bipush (v := 8) C dX2_touches_1 (by decide) ?_
  refine gx_icmp_lt (tgt := 17) C dX2_touches_3 (by decide) (fun z => ?_) (fun z => ?_)
  · replace h := h.1 z
    exact pb_X2_touches_17 C hK h
  · replace h := h.2 z
    refine gx_lload_n C dX2_touches_6 rfl 0 rfl ?_
    refine gx_iload_n C dX2_touches_7 rfl 1 rfl ?_
    refine gx_bipush (v := 8) C dX2_touches_8 (by decide) ?_
    refine gx_isub C dX2_touches_10 ?_
    refine gw_callsN (rest := []) C (pk_X1_has h) ⟨va_cnB 2 C.t (lw_meth q1427) rfl rfl rfl (hK.2.2.1 _ _ _ _ q1425) (C.t _ q119) dmX1_has ⟨Nat.le_of_ble_eq_true rfl, Nat.le_of_ble_eq_true rfl⟩, C.t _ q1426, trivial⟩ rfl rfl (Nat.le_of_ble_eq_true rfl) ⟨Nat.le_of_ble_eq_true rfl, Nat.le_of_ble_eq_true rfl⟩ dX2_touches_11 (fun r11 h => ?_)
    refine gx_if_ne (tgt := 34) C dX2_touches_14 (by decide) (fun z => ?_) (fun z => ?_)
    · replace h := h.2 z
      exact pb_X2_touches_34 C hK h
    · replace h := h.1 z
      exact pb_X2_touches_17 C hK h
/-! Land.range(I)J -/
abbrev rmX2_range : Room := { frames := 3, cells := 0, slots := 0, locals := 66 }
theorem dmX2_range : yX2_range.cls ≠ "java/lang/invoke/MethodHandle" ∧ yX2_range.cls ≠ "java/lang/invoke/VarHandle" ∧ (parseMethodDescriptor yX2_range.desc).map (fun d => d.parameters.length) = some 1 := by decide +kernel
def lj_X2_range_60 (L : LSt) (a2 : Int64) (a4 : Int64) (a6 : Int64) (a8 : Int32) (s0 : Int32) (k14 : LSt → Int64 → Int64 → Int64 → Prop) (k29 : LSt → Int64 → Int64 → Int64 → Int32 → Prop) (Q : Int64 → LSt → Prop) : Prop :=
  (∀ x78 : Int64, x78 = a4 ||| (if s0 = 0 then 0 else ((1 : Int64) <<< (a8.toInt64 &&& 63))) → k29 L a2 x78 a6 (a8 + 1))
theorem lb_X2_range_60 {l : Launch} {p : Program} {e : Env} {s : State} {m : MethodId} {args : Array Value} {below : List Frame} {meth : Method} {c : Code} {D : va_G} {t0 : Nat} {g : Nat → Nat} {ca : Nat → ClassId} {A : Nat → Prop} (C : gx_C p s m args meth c cX2_range 10 (some .long) RX2) (hK : gK D ca s) (hG : gZ t0 A s) (hA : ∀ q, s.heap.size ≤ q → A q) {L : LSt} {a2 : Int64} {a4 : Int64} {a6 : Int64} {a8 : Int32} {s0 : Int32} {k14 : LSt → Int64 → Int64 → Int64 → Prop} {k29 : LSt → Int64 → Int64 → Int64 → Int32 → Prop} {Q : Int64 → LSt → Prop} (h : lj_X2_range_60 L a2 a4 a6 a8 s0 k14 k29 Q) (hk14 : ∀ (L : LSt) (a2 : Int64) (a4 : Int64) (a6 : Int64), k14 L a2 a4 a6 → gx_W p l e (headSpec (ws_ yX2_range cX2_range 10 (some .long)) rmX2_range).room s m args below meth c 10 (lm_I D t0 g ca A s L []) 0 0 (MQ below (va_Ql Q (lm_B D t0 g ca A) A) args s 0 0 A) 14 [(2, .long a2), (4, .long a4), (6, .long a6)] []) (hk29 : ∀ (L : LSt) (a2 : Int64) (a4 : Int64) (a6 : Int64) (a8 : Int32), k29 L a2 a4 a6 a8 → gx_W p l e (headSpec (ws_ yX2_range cX2_range 10 (some .long)) rmX2_range).room s m args below meth c 10 (lm_I D t0 g ca A s L []) 0 0 (MQ below (va_Ql Q (lm_B D t0 g ca A) A) args s 0 0 A) 29 [(2, .long a2), (4, .long a4), (6, .long a6), (8, .int a8)] []) : gx_W p l e (headSpec (ws_ yX2_range cX2_range 10 (some .long)) rmX2_range).room s m args below meth c 10 (lm_I D t0 g ca A s L []) 0 0 (MQ below (va_Ql Q (lm_B D t0 g ca A) A) args s 0 0 A) 60 [(2, .long a2), (4, .long a4), (6, .long a6), (8, .int a8)] [.int s0] := by
  unfold lj_X2_range_60 at h
  refine gx_istore (lv' := [(9, .int s0), (2, .long a2), (4, .long a4), (6, .long a6), (8, .int a8)]) C dX2_range_60 (by decide) rfl ?_
  refine gx_lload C dX2_range_62 2 rfl ?_
  refine gx_iload C dX2_range_64 0 rfl ?_
  refine gx_phil (t := (if s0 = 0 then 0 else ((1 : Int64) <<< (a8.toInt64 &&& 63)))) (pc2 := 77) (lv2 := [(9, .int s0), (2, .long a2), (4, .long a4), (6, .long a6), (8, .int a8)]) (rest2 := [.long a4]) (fun key => ?_) ?_
  · refine gx_if_eq (tgt := 76) C dX2_range_66 (by decide) (fun z1 => ?_) (fun z1 => ?_)
    · refine gx_lconst (v := 0) C dX2_range_76 (by decide) ?_
      exact gx_castl (if_pos z1) key
    · refine gx_lconst (v := 1) C dX2_range_69 (by decide) ?_
      refine gx_iload C dX2_range_70 4 rfl ?_
      refine gx_lshl C dX2_range_72 rfl ?_
      refine gx_goto (tgt := 77) C dX2_range_73 (by decide) ?_
      exact gx_castl (if_neg z1) key
  refine gx_lor C dX2_range_77 ?_
  refine gx_topl (fun x78 e_x78 => ?_)
  replace h := h x78 e_x78
  refine gx_lstore (lv' := [(4, .long x78), (9, .int s0), (2, .long a2), (6, .long a6), (8, .int a8)]) C dX2_range_78 (by decide) rfl ?_
  refine gx_iinc (v := a8 + 1) (k := 4) (lv' := [(8, .int (a8 + 1)), (4, .long x78), (9, .int s0), (2, .long a2), (6, .long a6)]) C dX2_range_80 rfl rfl (by decide) rfl ?_
  refine gx_goto (tgt := 29) C dX2_range_83 (by decide) ?_
  refine gx_sub [3, 1, 4, 0] rfl ?_
  exact hk29 L a2 x78 a6 (a8 + 1) h
def lj_X2_range_59 (L : LSt) (a2 : Int64) (a4 : Int64) (a6 : Int64) (a8 : Int32) (k14 : LSt → Int64 → Int64 → Int64 → Prop) (k29 : LSt → Int64 → Int64 → Int64 → Int32 → Prop) (Q : Int64 → LSt → Prop) : Prop :=
  lj_X2_range_60 L a2 a4 a6 a8 0 k14 k29 Q
theorem lb_X2_range_59 {l : Launch} {p : Program} {e : Env} {s : State} {m : MethodId} {args : Array Value} {below : List Frame} {meth : Method} {c : Code} {D : va_G} {t0 : Nat} {g : Nat → Nat} {ca : Nat → ClassId} {A : Nat → Prop} (C : gx_C p s m args meth c cX2_range 10 (some .long) RX2) (hK : gK D ca s) (hG : gZ t0 A s) (hA : ∀ q, s.heap.size ≤ q → A q) {L : LSt} {a2 : Int64} {a4 : Int64} {a6 : Int64} {a8 : Int32} {k14 : LSt → Int64 → Int64 → Int64 → Prop} {k29 : LSt → Int64 → Int64 → Int64 → Int32 → Prop} {Q : Int64 → LSt → Prop} (h : lj_X2_range_59 L a2 a4 a6 a8 k14 k29 Q) (hk14 : ∀ (L : LSt) (a2 : Int64) (a4 : Int64) (a6 : Int64), k14 L a2 a4 a6 → gx_W p l e (headSpec (ws_ yX2_range cX2_range 10 (some .long)) rmX2_range).room s m args below meth c 10 (lm_I D t0 g ca A s L []) 0 0 (MQ below (va_Ql Q (lm_B D t0 g ca A) A) args s 0 0 A) 14 [(2, .long a2), (4, .long a4), (6, .long a6)] []) (hk29 : ∀ (L : LSt) (a2 : Int64) (a4 : Int64) (a6 : Int64) (a8 : Int32), k29 L a2 a4 a6 a8 → gx_W p l e (headSpec (ws_ yX2_range cX2_range 10 (some .long)) rmX2_range).room s m args below meth c 10 (lm_I D t0 g ca A s L []) 0 0 (MQ below (va_Ql Q (lm_B D t0 g ca A) A) args s 0 0 A) 29 [(2, .long a2), (4, .long a4), (6, .long a6), (8, .int a8)] []) : gx_W p l e (headSpec (ws_ yX2_range cX2_range 10 (some .long)) rmX2_range).room s m args below meth c 10 (lm_I D t0 g ca A s L []) 0 0 (MQ below (va_Ql Q (lm_B D t0 g ca A) A) args s 0 0 A) 59 [(2, .long a2), (4, .long a4), (6, .long a6), (8, .int a8)] [] := by
  unfold lj_X2_range_59 at h
  refine gx_iconst (v := 0) C dX2_range_59 (by decide) ?_
  exact lb_X2_range_60 C hK hG hA h hk14 hk29
def lj_X2_range_29 (L : LSt) (a2 : Int64) (a4 : Int64) (a6 : Int64) (a8 : Int32) (k29 : LSt → Int64 → Int64 → Int64 → Int32 → Prop) (k14 : LSt → Int64 → Int64 → Int64 → Prop) (Q : Int64 → LSt → Prop) : Prop :=
  ((64 ≤ a8 → k14 L a2 a4 a6) ∧ (¬ (64 ≤ a8) → pw_X1_has a2 a8 (fun r39 => ((r39 = 0 → lj_X2_range_59 L a2 a4 a6 a8 k14 k29 Q) ∧ (¬ (r39 = 0) → pw_X2_touches a6 a8 (fun r49 => ((r49 = 0 → lj_X2_range_59 L a2 a4 a6 a8 k14 k29 Q) ∧ (¬ (r49 = 0) → lj_X2_range_60 L a2 a4 a6 a8 1 k14 k29 Q))))))))
theorem lb_X2_range_29 {l : Launch} {p : Program} {e : Env} {s : State} {m : MethodId} {args : Array Value} {below : List Frame} {meth : Method} {c : Code} {D : va_G} {t0 : Nat} {g : Nat → Nat} {ca : Nat → ClassId} {A : Nat → Prop} (C : gx_C p s m args meth c cX2_range 10 (some .long) RX2) (hK : gK D ca s) (hG : gZ t0 A s) (hA : ∀ q, s.heap.size ≤ q → A q) {L : LSt} {a2 : Int64} {a4 : Int64} {a6 : Int64} {a8 : Int32} {k29 : LSt → Int64 → Int64 → Int64 → Int32 → Prop} {k14 : LSt → Int64 → Int64 → Int64 → Prop} {Q : Int64 → LSt → Prop} (h : lj_X2_range_29 L a2 a4 a6 a8 k29 k14 Q) (hk29 : ∀ (L : LSt) (a2 : Int64) (a4 : Int64) (a6 : Int64) (a8 : Int32), k29 L a2 a4 a6 a8 → gx_W p l e (headSpec (ws_ yX2_range cX2_range 10 (some .long)) rmX2_range).room s m args below meth c 10 (lm_I D t0 g ca A s L []) 0 0 (MQ below (va_Ql Q (lm_B D t0 g ca A) A) args s 0 0 A) 29 [(2, .long a2), (4, .long a4), (6, .long a6), (8, .int a8)] []) (hk14 : ∀ (L : LSt) (a2 : Int64) (a4 : Int64) (a6 : Int64), k14 L a2 a4 a6 → gx_W p l e (headSpec (ws_ yX2_range cX2_range 10 (some .long)) rmX2_range).room s m args below meth c 10 (lm_I D t0 g ca A s L []) 0 0 (MQ below (va_Ql Q (lm_B D t0 g ca A) A) args s 0 0 A) 14 [(2, .long a2), (4, .long a4), (6, .long a6)] []) : gx_W p l e (headSpec (ws_ yX2_range cX2_range 10 (some .long)) rmX2_range).room s m args below meth c 10 (lm_I D t0 g ca A s L []) 0 0 (MQ below (va_Ql Q (lm_B D t0 g ca A) A) args s 0 0 A) 29 [(2, .long a2), (4, .long a4), (6, .long a6), (8, .int a8)] [] := by
  unfold lj_X2_range_29 at h
  refine gx_iload C dX2_range_29 3 rfl ?_
  refine gx_bipush (v := 64) C dX2_range_31 (by decide) ?_
  refine gx_icmp_ge (tgt := 86) C dX2_range_33 (by decide) (fun z => ?_) (fun z => ?_)
  · replace h := h.1 z
    refine gx_goto (tgt := 14) C dX2_range_86 (by decide) ?_
    refine gx_sub [0, 1, 2] rfl ?_
    exact hk14 L a2 a4 a6 h
  · replace h := h.2 z
    refine gx_lload_n C dX2_range_36 rfl 0 rfl ?_
    refine gx_iload C dX2_range_37 3 rfl ?_
    refine gw_callsN (rest := []) C (pk_X1_has h) ⟨va_cnB 2 C.t (lw_meth q1427) rfl rfl rfl (hK.2.2.1 _ _ _ _ q1425) (C.t _ q119) dmX1_has ⟨Nat.le_of_ble_eq_true rfl, Nat.le_of_ble_eq_true rfl⟩, C.t _ q1426, trivial⟩ rfl rfl (Nat.le_of_ble_eq_true rfl) ⟨Nat.zero_le _, Nat.zero_le _⟩ dX2_range_39 (fun r39 h => ?_)
    refine gx_if_eq (tgt := 59) C dX2_range_42 (by decide) (fun z => ?_) (fun z => ?_)
    · replace h := h.1 z
      exact lb_X2_range_59 C hK hG hA h hk14 hk29
    · replace h := h.2 z
      refine gx_lload C dX2_range_45 2 rfl ?_
      refine gx_iload C dX2_range_47 3 rfl ?_
      refine gx_callsK (rest := []) C hK (pk_X2_touches h) (va_cwS 2 C.t (lw_S q1428 q1429 q120 q1430) rfl rfl rfl dmX2_touches ⟨Nat.le_of_ble_eq_true rfl, Nat.le_of_ble_eq_true rfl⟩) rfl rfl (Nat.le_of_ble_eq_true rfl) ⟨Nat.zero_le _, Nat.zero_le _⟩ dX2_range_49 (fun r49 h => ?_)
      refine gx_if_eq (tgt := 59) C dX2_range_52 (by decide) (fun z => ?_) (fun z => ?_)
      · replace h := h.1 z
        exact lb_X2_range_59 C hK hG hA h hk14 hk29
      · replace h := h.2 z
        refine gx_iconst (v := 1) C dX2_range_55 (by decide) ?_
        refine gx_goto (tgt := 60) C dX2_range_56 (by decide) ?_
        exact lb_X2_range_60 C hK hG hA h hk14 hk29
def ll_X2_range_29 (k14 : LSt → Int64 → Int64 → Int64 → Prop) (Q : Int64 → LSt → Prop) : Nat → LSt → Int64 → Int64 → Int64 → Int32 → Prop
  | 0, _, _, _, _, _ => False
  | n + 1, L, a2, a4, a6, a8 => lj_X2_range_29 L a2 a4 a6 a8 (fun L a2 a4 a6 a8 => ll_X2_range_29 k14 Q n L a2 a4 a6 a8) k14 Q
theorem le_X2_range_29 {l : Launch} {p : Program} {e : Env} {s : State} {m : MethodId} {args : Array Value} {below : List Frame} {meth : Method} {c : Code} {D : va_G} {t0 : Nat} {g : Nat → Nat} {ca : Nat → ClassId} {A : Nat → Prop} (C : gx_C p s m args meth c cX2_range 10 (some .long) RX2) (hK : gK D ca s) (hG : gZ t0 A s) (hA : ∀ q, s.heap.size ≤ q → A q) {k14 : LSt → Int64 → Int64 → Int64 → Prop} {Q : Int64 → LSt → Prop} (hk14 : ∀ (L : LSt) (a2 : Int64) (a4 : Int64) (a6 : Int64), k14 L a2 a4 a6 → gx_W p l e (headSpec (ws_ yX2_range cX2_range 10 (some .long)) rmX2_range).room s m args below meth c 10 (lm_I D t0 g ca A s L []) 0 0 (MQ below (va_Ql Q (lm_B D t0 g ca A) A) args s 0 0 A) 14 [(2, .long a2), (4, .long a4), (6, .long a6)] []) (n : Nat) : ∀ (L : LSt) (a2 : Int64) (a4 : Int64) (a6 : Int64) (a8 : Int32), ll_X2_range_29 k14 Q n L a2 a4 a6 a8 → gx_W p l e (headSpec (ws_ yX2_range cX2_range 10 (some .long)) rmX2_range).room s m args below meth c 10 (lm_I D t0 g ca A s L []) 0 0 (MQ below (va_Ql Q (lm_B D t0 g ca A) A) args s 0 0 A) 29 [(2, .long a2), (4, .long a4), (6, .long a6), (8, .int a8)] [] := by
  induction n with
  | zero => intro L a2 a4 a6 a8 h; exact False.elim h
  | succ n ih => intro L a2 a4 a6 a8 h; exact lb_X2_range_29 C hK hG hA (show lj_X2_range_29 L a2 a4 a6 a8 (fun L a2 a4 a6 a8 => ll_X2_range_29 k14 Q n L a2 a4 a6 a8) k14 Q from h) (fun L a2 a4 a6 a8 h => ih L a2 a4 a6 a8 h) hk14
def lj_X2_range_14 (L : LSt) (a2 : Int64) (a4 : Int64) (a6 : Int64) (k14 : LSt → Int64 → Int64 → Int64 → Prop) (Q : Int64 → LSt → Prop) : Prop :=
  (((lg_cmp a4 a6) = 0 → Q a4 L) ∧ (¬ (lg_cmp a4 a6) = 0 → ∃ n : Nat, ll_X2_range_29 k14 Q n L a2 a4 a4 0))
theorem lb_X2_range_14 {l : Launch} {p : Program} {e : Env} {s : State} {m : MethodId} {args : Array Value} {below : List Frame} {meth : Method} {c : Code} {D : va_G} {t0 : Nat} {g : Nat → Nat} {ca : Nat → ClassId} {A : Nat → Prop} (C : gx_C p s m args meth c cX2_range 10 (some .long) RX2) (hK : gK D ca s) (hG : gZ t0 A s) (hA : ∀ q, s.heap.size ≤ q → A q) {L : LSt} {a2 : Int64} {a4 : Int64} {a6 : Int64} {k14 : LSt → Int64 → Int64 → Int64 → Prop} {Q : Int64 → LSt → Prop} (h : lj_X2_range_14 L a2 a4 a6 k14 Q) (hk14 : ∀ (L : LSt) (a2 : Int64) (a4 : Int64) (a6 : Int64), k14 L a2 a4 a6 → gx_W p l e (headSpec (ws_ yX2_range cX2_range 10 (some .long)) rmX2_range).room s m args below meth c 10 (lm_I D t0 g ca A s L []) 0 0 (MQ below (va_Ql Q (lm_B D t0 g ca A) A) args s 0 0 A) 14 [(2, .long a2), (4, .long a4), (6, .long a6)] []) : gx_W p l e (headSpec (ws_ yX2_range cX2_range 10 (some .long)) rmX2_range).room s m args below meth c 10 (lm_I D t0 g ca A s L []) 0 0 (MQ below (va_Ql Q (lm_B D t0 g ca A) A) args s 0 0 A) 14 [(2, .long a2), (4, .long a4), (6, .long a6)] [] := by
  unfold lj_X2_range_14 at h
  refine gx_lload C dX2_range_14 1 rfl ?_
  refine gx_lload C dX2_range_16 2 rfl ?_
  refine gx_lcmp C dX2_range_18 ?_
  refine gx_if_eq (tgt := 89) C dX2_range_19 (by decide) (fun z => ?_) (fun z => ?_)
  · replace h := h.1 z
    refine gx_lload C dX2_range_89 1 rfl ?_
    exact lm_lret C h (Nat.le_refl _) (Nat.le_refl _) dX2_range_91
  · replace h := h.2 z
    refine gx_lload C dX2_range_22 1 rfl ?_
    refine gx_lstore (lv' := [(6, .long a4), (2, .long a2), (4, .long a4)]) C dX2_range_24 (by decide) rfl ?_
    refine gx_iconst (v := 0) C dX2_range_26 (by decide) ?_
    refine gx_istore (lv' := [(8, .int 0), (6, .long a4), (2, .long a2), (4, .long a4)]) C dX2_range_27 (by decide) rfl ?_
    refine gx_sub [2, 3, 1, 0] rfl ?_
    obtain ⟨n, h⟩ := h
    exact le_X2_range_29 C hK hG hA hk14 n L a2 a4 a4 0 h
def ll_X2_range_14 (Q : Int64 → LSt → Prop) : Nat → LSt → Int64 → Int64 → Int64 → Prop
  | 0, _, _, _, _ => False
  | n + 1, L, a2, a4, a6 => lj_X2_range_14 L a2 a4 a6 (fun L a2 a4 a6 => ll_X2_range_14 Q n L a2 a4 a6) Q
theorem le_X2_range_14 {l : Launch} {p : Program} {e : Env} {s : State} {m : MethodId} {args : Array Value} {below : List Frame} {meth : Method} {c : Code} {D : va_G} {t0 : Nat} {g : Nat → Nat} {ca : Nat → ClassId} {A : Nat → Prop} (C : gx_C p s m args meth c cX2_range 10 (some .long) RX2) (hK : gK D ca s) (hG : gZ t0 A s) (hA : ∀ q, s.heap.size ≤ q → A q) {Q : Int64 → LSt → Prop}  (n : Nat) : ∀ (L : LSt) (a2 : Int64) (a4 : Int64) (a6 : Int64), ll_X2_range_14 Q n L a2 a4 a6 → gx_W p l e (headSpec (ws_ yX2_range cX2_range 10 (some .long)) rmX2_range).room s m args below meth c 10 (lm_I D t0 g ca A s L []) 0 0 (MQ below (va_Ql Q (lm_B D t0 g ca A) A) args s 0 0 A) 14 [(2, .long a2), (4, .long a4), (6, .long a6)] [] := by
  induction n with
  | zero => intro L a2 a4 a6 h; exact False.elim h
  | succ n ih => intro L a2 a4 a6 h; exact lb_X2_range_14 C hK hG hA (show lj_X2_range_14 L a2 a4 a6 (fun L a2 a4 a6 => ll_X2_range_14 Q n L a2 a4 a6) Q from h) (fun L a2 a4 a6 h => ih L a2 a4 a6 h)
def lw_X2_range (L : LSt) (a1 : Int32) (Q : Int64 → LSt → Prop) : Prop :=
  lw_X2_near L a1 (fun r2 L2 => ∃ n : Nat, ll_X2_range_14 Q n L2 r2 ((1 : Int64) <<< (a1.toInt64 &&& 63)) 0)
theorem lk_X2_range {l : Launch} {D : va_G} {t0 : Nat} {g : Nat → Nat} {ca : Nat → ClassId} {Z : va_W} {sz : Nat} {L : LSt} {a1 : Int32} {Q : Int64 → LSt → Prop} (h : lw_X2_range L a1 Q) : lm_Met l yX2_range cX2_range 10 (some .long) rmX2_range [.int a1] D t0 g ca Z sz L (va_Ql Q (lm_B D t0 g ca (va_A (lm_ws g ca L Z) sz)) (va_A (lm_ws g ca L Z) sz)) 0 0 := by
  refine lm_entry (by decide) (Nat.le_of_ble_eq_true rfl) (fun p e s m args below meth c A eA hA hG C hK => ?_)
  rw [eA]
  unfold lw_X2_range at h
  show gx_W p l e (headSpec (ws_ yX2_range cX2_range 10 (some .long)) rmX2_range).room s m args below meth c 10 (lm_I D t0 g ca A s L []) 0 0 (MQ below (va_Ql Q (lm_B D t0 g ca A) A) args s 0 0 A) 0 [(0, .ref (g 0)), (1, .int a1)] []
  refine gx_aload_n C dX2_range_0 rfl 0 rfl ?_
  refine gx_iload_n C dX2_range_1 rfl 1 rfl ?_
  refine lm_calll (rest := []) C hK hG hA (fun Z sz => lk_X2_near h) (cwV 1 C.t (lw_V q1414 q1416 qs8 q120 q1417) rfl rfl rfl ⟨rfl, dmX2_near⟩ ⟨Nat.le_of_ble_eq_true rfl, Nat.le_of_ble_eq_true rfl⟩) rfl rfl (Nat.le_of_ble_eq_true rfl) ⟨Nat.zero_le _, Nat.zero_le _⟩ dX2_range_2 (fun r2 L2 h => ?_)
  refine gx_lstore_n (lv' := [(2, .long r2), (0, .ref (g 0)), (1, .int a1)]) C dX2_range_5 rfl (by decide) rfl ?_
  refine gx_lconst (v := 1) C dX2_range_6 (by decide) ?_
  refine gx_iload_n C dX2_range_7 rfl 2 rfl ?_
  refine gx_lshl C dX2_range_8 rfl ?_
  refine gx_lstore (lv' := [(4, .long ((1 : Int64) <<< (a1.toInt64 &&& 63))), (2, .long r2), (0, .ref (g 0)), (1, .int a1)]) C dX2_range_9 (by decide) rfl ?_
  refine gx_lconst (v := 0) C dX2_range_11 (by decide) ?_
  refine gx_lstore (lv' := [(6, .long 0), (4, .long ((1 : Int64) <<< (a1.toInt64 &&& 63))), (2, .long r2), (0, .ref (g 0)), (1, .int a1)]) C dX2_range_12 (by decide) rfl ?_
  refine gx_sub [2, 1, 0] rfl ?_
  obtain ⟨n, h⟩ := h
  exact le_X2_range_14 C hK hG hA n L2 r2 ((1 : Int64) <<< (a1.toInt64 &&& 63)) 0 h
/-! Land.tellRanges()V -/
abbrev rmX2_tellRanges : Room := { frames := 4, cells := 0, slots := 0, locals := 95 }
theorem dmX2_tellRanges : yX2_tellRanges.cls ≠ "java/lang/invoke/MethodHandle" ∧ yX2_tellRanges.cls ≠ "java/lang/invoke/VarHandle" ∧ (parseMethodDescriptor yX2_tellRanges.desc).map (fun d => d.parameters.length) = some 0 := by decide +kernel
def lj_X2_tellRanges_10 (L : LSt) (a1 : Int32) (a2 : Int32) (k10 : LSt → Int32 → Int32 → Prop) (Q : LSt → Prop) : Prop :=
  ((a1 ≤ a2 → Q L) ∧ (¬ (a1 ≤ a2) → (vp_in a2 (ls_bx L).length ∧ ∀ o20 : Nat, o20 = (ls_bx L).getD a2.toNatClampNeg 0 → lw_X2_range L (ls_bs L o20) (fun r33 L33 => (o20 ∈ ls_bx L33 ∧ (∀ L36 : LSt, L36 = ls_g L33 o20 r33 → k10 L36 a1 (a2 + 1)))))))
theorem lb_X2_tellRanges_10 {l : Launch} {p : Program} {e : Env} {s : State} {m : MethodId} {args : Array Value} {below : List Frame} {meth : Method} {c : Code} {D : va_G} {t0 : Nat} {g : Nat → Nat} {ca : Nat → ClassId} {A : Nat → Prop} (C : gx_C p s m args meth c cX2_tellRanges 4 none RX2) (hK : gK D ca s) (hG : gZ t0 A s) (hA : ∀ q, s.heap.size ≤ q → A q) {L : LSt} {a1 : Int32} {a2 : Int32} {k10 : LSt → Int32 → Int32 → Prop} {Q : LSt → Prop} (h : lj_X2_tellRanges_10 L a1 a2 k10 Q) (hk10 : ∀ (L : LSt) (a1 : Int32) (a2 : Int32), k10 L a1 a2 → gx_W p l e (headSpec (ws_ yX2_tellRanges cX2_tellRanges 4 none) rmX2_tellRanges).room s m args below meth c 4 (lm_I D t0 g ca A s L []) 0 0 (MQ below (va_Qv Q (lm_B D t0 g ca A) A) args s 0 0 A) 10 [(0, .ref (g 0)), (1, .int a1), (2, .int a2)] []) : gx_W p l e (headSpec (ws_ yX2_tellRanges cX2_tellRanges 4 none) rmX2_tellRanges).room s m args below meth c 4 (lm_I D t0 g ca A s L []) 0 0 (MQ below (va_Qv Q (lm_B D t0 g ca A) A) args s 0 0 A) 10 [(0, .ref (g 0)), (1, .int a1), (2, .int a2)] [] := by
  unfold lj_X2_tellRanges_10 at h
  refine gx_iload_n C dX2_tellRanges_10 rfl 2 rfl ?_
  refine gx_iload_n C dX2_tellRanges_11 rfl 1 rfl ?_
  refine gx_icmp_ge (tgt := 45) C dX2_tellRanges_12 (by decide) (fun z => ?_) (fun z => ?_)
  · replace h := h.1 z
    exact lm_vret C h (Nat.le_refl _) (Nat.le_refl _) dX2_tellRanges_45
  · replace h := h.2 z
    refine gx_aload_n C dX2_tellRanges_15 rfl 0 rfl ?_
    refine gw_get C hK in_X2 rfl ll_H0 3 (by decide) q237 rfl rfl dX2_tellRanges_16 ?_
    refine gx_iload_n C dX2_tellRanges_19 rfl 2 rfl ?_
    obtain ⟨g20, h⟩ := h
    refine al_rget C hK ll_bl g20 (cwV 1 C.t (lw_V q364 q365 q366 q123 q367) rfl rfl rfl ⟨rfl, dmJ2_get⟩ ⟨Nat.le_of_ble_eq_true rfl, Nat.le_of_ble_eq_true rfl⟩) (Nat.le_of_ble_eq_true rfl) ⟨Nat.zero_le _, Nat.zero_le _⟩ dX2_tellRanges_20 (fun o20 e_o20 => ?_)
    replace h := h o20 e_o20
    have m_o20 : o20 ∈ ls_bx L := e_o20 ▸ al_mem g20
    refine gw_cast C hK (ci := 4) rfl (ll_Hb m_o20) q378 dX2_tellRanges_23 ?_
    refine gx_astore_n (lv' := [(3, .ref o20), (0, .ref (g 0)), (1, .int a1), (2, .int a2)]) C dX2_tellRanges_26 rfl (by decide) rfl ?_
    refine gx_aload_n C dX2_tellRanges_27 rfl 0 rfl ?_
    refine gx_aload_n C dX2_tellRanges_28 rfl 1 rfl ?_
    refine gx_aload_n C dX2_tellRanges_29 rfl 0 rfl ?_
    refine gw_getN C hK in_X5 rfl (ll_Hb m_o20) 0 (by decide) q390 rfl rfl dX2_tellRanges_30 ?_
    refine lm_calll (rest := [.ref o20]) C hK hG hA (fun Z sz => lk_X2_range h) (cwV 1 C.t (lw_V q1410 q1412 qs7 q120 q1413) rfl rfl rfl ⟨rfl, dmX2_range⟩ ⟨Nat.le_of_ble_eq_true rfl, Nat.le_of_ble_eq_true rfl⟩) rfl rfl (Nat.le_of_ble_eq_true rfl) ⟨Nat.zero_le _, Nat.zero_le _⟩ dX2_tellRanges_33 (fun r33 L33 h => ?_)
    obtain ⟨m36, h⟩ := h
    refine gw_putN C hK in_X5 tyX5 tyX5_ok nmX5 rfl 2 (by decide) q396 rfl rfl (fs := lb_fs L33 o20) (ty := .long) rfl rfl rfl (show 2 < 3 by decide) (ll_Ug _ m36) dX2_tellRanges_36 ?_
    refine lm_name (fun L36 e_L36 => ?_)
    replace h := h L36 e_L36
    refine gx_iinc (v := a2 + 1) (k := 3) (lv' := [(2, .int (a2 + 1)), (3, .ref o20), (0, .ref (g 0)), (1, .int a1)]) C dX2_tellRanges_39 rfl rfl (by decide) rfl ?_
    refine gx_goto (tgt := 10) C dX2_tellRanges_42 (by decide) ?_
    refine gx_sub [2, 3, 0] rfl ?_
    exact hk10 L36 a1 (a2 + 1) h
def ll_X2_tellRanges_10 (Q : LSt → Prop) : Nat → LSt → Int32 → Int32 → Prop
  | 0, _, _, _ => False
  | n + 1, L, a1, a2 => lj_X2_tellRanges_10 L a1 a2 (fun L a1 a2 => ll_X2_tellRanges_10 Q n L a1 a2) Q
theorem le_X2_tellRanges_10 {l : Launch} {p : Program} {e : Env} {s : State} {m : MethodId} {args : Array Value} {below : List Frame} {meth : Method} {c : Code} {D : va_G} {t0 : Nat} {g : Nat → Nat} {ca : Nat → ClassId} {A : Nat → Prop} (C : gx_C p s m args meth c cX2_tellRanges 4 none RX2) (hK : gK D ca s) (hG : gZ t0 A s) (hA : ∀ q, s.heap.size ≤ q → A q) {Q : LSt → Prop}  (n : Nat) : ∀ (L : LSt) (a1 : Int32) (a2 : Int32), ll_X2_tellRanges_10 Q n L a1 a2 → gx_W p l e (headSpec (ws_ yX2_tellRanges cX2_tellRanges 4 none) rmX2_tellRanges).room s m args below meth c 4 (lm_I D t0 g ca A s L []) 0 0 (MQ below (va_Qv Q (lm_B D t0 g ca A) A) args s 0 0 A) 10 [(0, .ref (g 0)), (1, .int a1), (2, .int a2)] [] := by
  induction n with
  | zero => intro L a1 a2 h; exact False.elim h
  | succ n ih => intro L a1 a2 h; exact lb_X2_tellRanges_10 C hK hG hA (show lj_X2_tellRanges_10 L a1 a2 (fun L a1 a2 => ll_X2_tellRanges_10 Q n L a1 a2) Q from h) (fun L a1 a2 h => ih L a1 a2 h)
def lw_X2_tellRanges (L : LSt) (Q : LSt → Prop) : Prop :=
  ∃ n : Nat, ll_X2_tellRanges_10 Q n L (nI (ls_bx L).length) 0
theorem lk_X2_tellRanges {l : Launch} {D : va_G} {t0 : Nat} {g : Nat → Nat} {ca : Nat → ClassId} {Z : va_W} {sz : Nat} {L : LSt} {Q : LSt → Prop} (h : lw_X2_tellRanges L Q) : lm_Met l yX2_tellRanges cX2_tellRanges 4 none rmX2_tellRanges [] D t0 g ca Z sz L (va_Qv Q (lm_B D t0 g ca (va_A (lm_ws g ca L Z) sz)) (va_A (lm_ws g ca L Z) sz)) 0 0 := by
  refine lm_entry (by decide) (Nat.le_of_ble_eq_true rfl) (fun p e s m args below meth c A eA hA hG C hK => ?_)
  rw [eA]
  unfold lw_X2_tellRanges at h
  show gx_W p l e (headSpec (ws_ yX2_tellRanges cX2_tellRanges 4 none) rmX2_tellRanges).room s m args below meth c 4 (lm_I D t0 g ca A s L []) 0 0 (MQ below (va_Qv Q (lm_B D t0 g ca A) A) args s 0 0 A) 0 [(0, .ref (g 0))] []
  refine gx_aload_n C dX2_tellRanges_0 rfl 0 rfl ?_
  refine gw_get C hK in_X2 rfl ll_H0 3 (by decide) q237 rfl rfl dX2_tellRanges_1 ?_
  refine al_rsize (n := 0) C hK ll_bl (cwV 0 C.t (lw_V q360 q361 q362 q123 q363) rfl rfl rfl ⟨rfl, dmJ2_size⟩ ⟨Nat.le_of_ble_eq_true rfl, Nat.le_of_ble_eq_true rfl⟩) (Nat.le_of_ble_eq_true rfl) ⟨Nat.zero_le _, Nat.zero_le _⟩ dX2_tellRanges_4 ?_
  refine gx_istore_n (lv' := [(1, .int (nI (ls_bx L).length)), (0, .ref (g 0))]) C dX2_tellRanges_7 rfl (by decide) rfl ?_
  refine gx_iconst (v := 0) C dX2_tellRanges_8 (by decide) ?_
  refine gx_istore_n (lv' := [(2, .int 0), (1, .int (nI (ls_bx L).length)), (0, .ref (g 0))]) C dX2_tellRanges_9 rfl (by decide) rfl ?_
  refine gx_sub [2, 1, 0] rfl ?_
  obtain ⟨n, h⟩ := h
  exact le_X2_tellRanges_10 C hK hG hA n L (nI (ls_bx L).length) 0 h
/-! Land.crowd(I)I -/
abbrev rmX2_crowd : Room := { frames := 3, cells := 0, slots := 0, locals := 64 }
theorem dmX2_crowd : yX2_crowd.cls ≠ "java/lang/invoke/MethodHandle" ∧ yX2_crowd.cls ≠ "java/lang/invoke/VarHandle" ∧ (parseMethodDescriptor yX2_crowd.desc).map (fun d => d.parameters.length) = some 1 := by decide +kernel
def lj_X2_crowd_59 (L : LSt) (a1 : Int32) (a3 : Int32) (a4 : Int32) (s0 : Int32) (s1 : Int32) (k13 : LSt → Int32 → Int32 → Int32 → Int32 → Prop) (Q : Int32 → LSt → Prop) : Prop :=
  k13 L a1 (s0 + s1) a3 (a4 + 1)
theorem lb_X2_crowd_59 {l : Launch} {p : Program} {e : Env} {s : State} {m : MethodId} {args : Array Value} {below : List Frame} {meth : Method} {c : Code} {D : va_G} {t0 : Nat} {g : Nat → Nat} {ca : Nat → ClassId} {A : Nat → Prop} (C : gx_C p s m args meth c cX2_crowd 6 (some .int) RX2) (hK : gK D ca s) (hG : gZ t0 A s) (hA : ∀ q, s.heap.size ≤ q → A q) {L : LSt} {a1 : Int32} {a3 : Int32} {a4 : Int32} {s0 : Int32} {s1 : Int32} {k13 : LSt → Int32 → Int32 → Int32 → Int32 → Prop} {Q : Int32 → LSt → Prop} (h : lj_X2_crowd_59 L a1 a3 a4 s0 s1 k13 Q) (hk13 : ∀ (L : LSt) (a1 : Int32) (a2 : Int32) (a3 : Int32) (a4 : Int32), k13 L a1 a2 a3 a4 → gx_W p l e (headSpec (ws_ yX2_crowd cX2_crowd 6 (some .int)) rmX2_crowd).room s m args below meth c 6 (lm_I D t0 g ca A s L []) 0 0 (MQ below (va_Qi Q (lm_B D t0 g ca A) A) args s 0 0 A) 13 [(0, .ref (g 0)), (1, .int a1), (2, .int a2), (3, .int a3), (4, .int a4)] []) : gx_W p l e (headSpec (ws_ yX2_crowd cX2_crowd 6 (some .int)) rmX2_crowd).room s m args below meth c 6 (lm_I D t0 g ca A s L []) 0 0 (MQ below (va_Qi Q (lm_B D t0 g ca A) A) args s 0 0 A) 59 [(0, .ref (g 0)), (1, .int a1), (3, .int a3), (4, .int a4)] [.int s1, .int s0] := by
  unfold lj_X2_crowd_59 at h
  refine gx_iadd C dX2_crowd_59 ?_
  refine gx_istore_n (lv' := [(2, .int (s0 + s1)), (0, .ref (g 0)), (1, .int a1), (3, .int a3), (4, .int a4)]) C dX2_crowd_60 rfl (by decide) rfl ?_
  refine gx_iinc (v := a4 + 1) (k := 4) (lv' := [(4, .int (a4 + 1)), (2, .int (s0 + s1)), (0, .ref (g 0)), (1, .int a1), (3, .int a3)]) C dX2_crowd_61 rfl rfl (by decide) rfl ?_
  refine gx_goto (tgt := 13) C dX2_crowd_64 (by decide) ?_
  refine gx_sub [2, 3, 1, 4, 0] rfl ?_
  exact hk13 L a1 (s0 + s1) a3 (a4 + 1) h
def lj_X2_crowd_58 (L : LSt) (a1 : Int32) (a3 : Int32) (a4 : Int32) (s0 : Int32) (k13 : LSt → Int32 → Int32 → Int32 → Int32 → Prop) (Q : Int32 → LSt → Prop) : Prop :=
  lj_X2_crowd_59 L a1 a3 a4 s0 0 k13 Q
theorem lb_X2_crowd_58 {l : Launch} {p : Program} {e : Env} {s : State} {m : MethodId} {args : Array Value} {below : List Frame} {meth : Method} {c : Code} {D : va_G} {t0 : Nat} {g : Nat → Nat} {ca : Nat → ClassId} {A : Nat → Prop} (C : gx_C p s m args meth c cX2_crowd 6 (some .int) RX2) (hK : gK D ca s) (hG : gZ t0 A s) (hA : ∀ q, s.heap.size ≤ q → A q) {L : LSt} {a1 : Int32} {a3 : Int32} {a4 : Int32} {s0 : Int32} {k13 : LSt → Int32 → Int32 → Int32 → Int32 → Prop} {Q : Int32 → LSt → Prop} (h : lj_X2_crowd_58 L a1 a3 a4 s0 k13 Q) (hk13 : ∀ (L : LSt) (a1 : Int32) (a2 : Int32) (a3 : Int32) (a4 : Int32), k13 L a1 a2 a3 a4 → gx_W p l e (headSpec (ws_ yX2_crowd cX2_crowd 6 (some .int)) rmX2_crowd).room s m args below meth c 6 (lm_I D t0 g ca A s L []) 0 0 (MQ below (va_Qi Q (lm_B D t0 g ca A) A) args s 0 0 A) 13 [(0, .ref (g 0)), (1, .int a1), (2, .int a2), (3, .int a3), (4, .int a4)] []) : gx_W p l e (headSpec (ws_ yX2_crowd cX2_crowd 6 (some .int)) rmX2_crowd).room s m args below meth c 6 (lm_I D t0 g ca A s L []) 0 0 (MQ below (va_Qi Q (lm_B D t0 g ca A) A) args s 0 0 A) 58 [(0, .ref (g 0)), (1, .int a1), (3, .int a3), (4, .int a4)] [.int s0] := by
  unfold lj_X2_crowd_58 at h
  refine gx_iconst (v := 0) C dX2_crowd_58 (by decide) ?_
  exact lb_X2_crowd_59 C hK hG hA h hk13
def lj_X2_crowd_13 (L : LSt) (a1 : Int32) (a2 : Int32) (a3 : Int32) (a4 : Int32) (k13 : LSt → Int32 → Int32 → Int32 → Int32 → Prop) (Q : Int32 → LSt → Prop) : Prop :=
  ((a3 ≤ a4 → Q a2 L) ∧ (¬ (a3 ≤ a4) → (vp_in a4 (ls_bx L).length ∧ ∀ o25 : Nat, o25 = (ls_bx L).getD a4.toNatClampNeg 0 → rw_X5_isLivedIn (ls_br L o25) (fun r36 => ((r36 = 0 → lj_X2_crowd_58 L a1 a3 a4 a2 k13 Q) ∧ (¬ (r36 = 0) → pw_X1_has (ls_bg L o25) a1 (fun r48 => ((r48 = 0 → lj_X2_crowd_58 L a1 a3 a4 a2 k13 Q) ∧ (¬ (r48 = 0) → lj_X2_crowd_59 L a1 a3 a4 a2 1 k13 Q)))))))))
theorem lb_X2_crowd_13 {l : Launch} {p : Program} {e : Env} {s : State} {m : MethodId} {args : Array Value} {below : List Frame} {meth : Method} {c : Code} {D : va_G} {t0 : Nat} {g : Nat → Nat} {ca : Nat → ClassId} {A : Nat → Prop} (C : gx_C p s m args meth c cX2_crowd 6 (some .int) RX2) (hK : gK D ca s) (hG : gZ t0 A s) (hA : ∀ q, s.heap.size ≤ q → A q) {L : LSt} {a1 : Int32} {a2 : Int32} {a3 : Int32} {a4 : Int32} {k13 : LSt → Int32 → Int32 → Int32 → Int32 → Prop} {Q : Int32 → LSt → Prop} (h : lj_X2_crowd_13 L a1 a2 a3 a4 k13 Q) (hk13 : ∀ (L : LSt) (a1 : Int32) (a2 : Int32) (a3 : Int32) (a4 : Int32), k13 L a1 a2 a3 a4 → gx_W p l e (headSpec (ws_ yX2_crowd cX2_crowd 6 (some .int)) rmX2_crowd).room s m args below meth c 6 (lm_I D t0 g ca A s L []) 0 0 (MQ below (va_Qi Q (lm_B D t0 g ca A) A) args s 0 0 A) 13 [(0, .ref (g 0)), (1, .int a1), (2, .int a2), (3, .int a3), (4, .int a4)] []) : gx_W p l e (headSpec (ws_ yX2_crowd cX2_crowd 6 (some .int)) rmX2_crowd).room s m args below meth c 6 (lm_I D t0 g ca A s L []) 0 0 (MQ below (va_Qi Q (lm_B D t0 g ca A) A) args s 0 0 A) 13 [(0, .ref (g 0)), (1, .int a1), (2, .int a2), (3, .int a3), (4, .int a4)] [] := by
  unfold lj_X2_crowd_13 at h
  refine gx_iload C dX2_crowd_13 4 rfl ?_
  refine gx_iload_n C dX2_crowd_15 rfl 3 rfl ?_
  refine gx_icmp_ge (tgt := 67) C dX2_crowd_16 (by decide) (fun z => ?_) (fun z => ?_)
  · replace h := h.1 z
    refine gx_iload_n C dX2_crowd_67 rfl 2 rfl ?_
    exact lm_iret C h (Nat.le_refl _) (Nat.le_refl _) dX2_crowd_68
  · replace h := h.2 z
    refine gx_aload_n C dX2_crowd_19 rfl 0 rfl ?_
    refine gw_get C hK in_X2 rfl ll_H0 3 (by decide) q237 rfl rfl dX2_crowd_20 ?_
    refine gx_iload C dX2_crowd_23 4 rfl ?_
    obtain ⟨g25, h⟩ := h
    refine al_rget C hK ll_bl g25 (cwV 1 C.t (lw_V q364 q365 q366 q123 q367) rfl rfl rfl ⟨rfl, dmJ2_get⟩ ⟨Nat.le_of_ble_eq_true rfl, Nat.le_of_ble_eq_true rfl⟩) (Nat.le_of_ble_eq_true rfl) ⟨Nat.zero_le _, Nat.zero_le _⟩ dX2_crowd_25 (fun o25 e_o25 => ?_)
    replace h := h o25 e_o25
    have m_o25 : o25 ∈ ls_bx L := e_o25 ▸ al_mem g25
    refine gw_cast C hK (ci := 4) rfl (ll_Hb m_o25) q378 dX2_crowd_28 ?_
    refine gx_astore (lv' := [(5, .ref o25), (0, .ref (g 0)), (1, .int a1), (2, .int a2), (3, .int a3), (4, .int a4)]) C dX2_crowd_31 (by decide) rfl ?_
    refine gx_iload_n C dX2_crowd_33 rfl 3 rfl ?_
    refine gx_aload C dX2_crowd_34 0 rfl ?_
    refine gw_roi (rest := [.int a2]) C (rk_X5_isLivedIn h) (cwV 0 C.t (lw_V q1439 q1440 q1441 q151 q1442) rfl rfl rfl ⟨rfl, dmX5_isLivedIn⟩ ⟨Nat.le_of_ble_eq_true rfl, Nat.le_of_ble_eq_true rfl⟩) (ro_pre hK (ci := 4) (q := (RX5, TX5, 3)) rfl (ll_Hb m_o25) (lm_bws m_o25)) rfl rfl (Nat.le_of_ble_eq_true rfl) ⟨Nat.zero_le _, Nat.zero_le _⟩ dX2_crowd_36 (fun r36 h => ?_)
    refine gx_if_eq (tgt := 58) C dX2_crowd_39 (by decide) (fun z => ?_) (fun z => ?_)
    · replace h := h.1 z
      refine gx_sub [1, 2, 4, 5] rfl ?_
      exact lb_X2_crowd_58 C hK hG hA h hk13
    · replace h := h.2 z
      refine gx_aload C dX2_crowd_42 0 rfl ?_
      refine gw_getN C hK in_X5 rfl (ll_Hb m_o25) 2 (by decide) q396 rfl rfl dX2_crowd_44 ?_
      refine gx_iload_n C dX2_crowd_47 rfl 2 rfl ?_
      refine gw_callsN (rest := [.int a2]) C (pk_X1_has h) ⟨va_cnB 2 C.t (lw_meth q1427) rfl rfl rfl (hK.2.2.1 _ _ _ _ q1425) (C.t _ q119) dmX1_has ⟨Nat.le_of_ble_eq_true rfl, Nat.le_of_ble_eq_true rfl⟩, C.t _ q1426, trivial⟩ rfl rfl (Nat.le_of_ble_eq_true rfl) ⟨Nat.zero_le _, Nat.zero_le _⟩ dX2_crowd_48 (fun r48 h => ?_)
      refine gx_if_eq (tgt := 58) C dX2_crowd_51 (by decide) (fun z => ?_) (fun z => ?_)
      · replace h := h.1 z
        refine gx_sub [1, 2, 4, 5] rfl ?_
        exact lb_X2_crowd_58 C hK hG hA h hk13
      · replace h := h.2 z
        refine gx_iconst (v := 1) C dX2_crowd_54 (by decide) ?_
        refine gx_goto (tgt := 59) C dX2_crowd_55 (by decide) ?_
        refine gx_sub [1, 2, 4, 5] rfl ?_
        exact lb_X2_crowd_59 C hK hG hA h hk13
def ll_X2_crowd_13 (Q : Int32 → LSt → Prop) : Nat → LSt → Int32 → Int32 → Int32 → Int32 → Prop
  | 0, _, _, _, _, _ => False
  | n + 1, L, a1, a2, a3, a4 => lj_X2_crowd_13 L a1 a2 a3 a4 (fun L a1 a2 a3 a4 => ll_X2_crowd_13 Q n L a1 a2 a3 a4) Q
theorem le_X2_crowd_13 {l : Launch} {p : Program} {e : Env} {s : State} {m : MethodId} {args : Array Value} {below : List Frame} {meth : Method} {c : Code} {D : va_G} {t0 : Nat} {g : Nat → Nat} {ca : Nat → ClassId} {A : Nat → Prop} (C : gx_C p s m args meth c cX2_crowd 6 (some .int) RX2) (hK : gK D ca s) (hG : gZ t0 A s) (hA : ∀ q, s.heap.size ≤ q → A q) {Q : Int32 → LSt → Prop}  (n : Nat) : ∀ (L : LSt) (a1 : Int32) (a2 : Int32) (a3 : Int32) (a4 : Int32), ll_X2_crowd_13 Q n L a1 a2 a3 a4 → gx_W p l e (headSpec (ws_ yX2_crowd cX2_crowd 6 (some .int)) rmX2_crowd).room s m args below meth c 6 (lm_I D t0 g ca A s L []) 0 0 (MQ below (va_Qi Q (lm_B D t0 g ca A) A) args s 0 0 A) 13 [(0, .ref (g 0)), (1, .int a1), (2, .int a2), (3, .int a3), (4, .int a4)] [] := by
  induction n with
  | zero => intro L a1 a2 a3 a4 h; exact False.elim h
  | succ n ih => intro L a1 a2 a3 a4 h; exact lb_X2_crowd_13 C hK hG hA (show lj_X2_crowd_13 L a1 a2 a3 a4 (fun L a1 a2 a3 a4 => ll_X2_crowd_13 Q n L a1 a2 a3 a4) Q from h) (fun L a1 a2 a3 a4 h => ih L a1 a2 a3 a4 h)
def lw_X2_crowd (L : LSt) (a1 : Int32) (Q : Int32 → LSt → Prop) : Prop :=
  ∃ n : Nat, ll_X2_crowd_13 Q n L a1 0 (nI (ls_bx L).length) 0
theorem lk_X2_crowd {l : Launch} {D : va_G} {t0 : Nat} {g : Nat → Nat} {ca : Nat → ClassId} {Z : va_W} {sz : Nat} {L : LSt} {a1 : Int32} {Q : Int32 → LSt → Prop} (h : lw_X2_crowd L a1 Q) : lm_Met l yX2_crowd cX2_crowd 6 (some .int) rmX2_crowd [.int a1] D t0 g ca Z sz L (va_Qi Q (lm_B D t0 g ca (va_A (lm_ws g ca L Z) sz)) (va_A (lm_ws g ca L Z) sz)) 0 0 := by
  refine lm_entry (by decide) (Nat.le_of_ble_eq_true rfl) (fun p e s m args below meth c A eA hA hG C hK => ?_)
  rw [eA]
  unfold lw_X2_crowd at h
  show gx_W p l e (headSpec (ws_ yX2_crowd cX2_crowd 6 (some .int)) rmX2_crowd).room s m args below meth c 6 (lm_I D t0 g ca A s L []) 0 0 (MQ below (va_Qi Q (lm_B D t0 g ca A) A) args s 0 0 A) 0 [(0, .ref (g 0)), (1, .int a1)] []
  refine gx_iconst (v := 0) C dX2_crowd_0 (by decide) ?_
  refine gx_istore_n (lv' := [(2, .int 0), (0, .ref (g 0)), (1, .int a1)]) C dX2_crowd_1 rfl (by decide) rfl ?_
  refine gx_aload_n C dX2_crowd_2 rfl 1 rfl ?_
  refine gw_get C hK in_X2 rfl ll_H0 3 (by decide) q237 rfl rfl dX2_crowd_3 ?_
  refine al_rsize (n := 0) C hK ll_bl (cwV 0 C.t (lw_V q360 q361 q362 q123 q363) rfl rfl rfl ⟨rfl, dmJ2_size⟩ ⟨Nat.le_of_ble_eq_true rfl, Nat.le_of_ble_eq_true rfl⟩) (Nat.le_of_ble_eq_true rfl) ⟨Nat.zero_le _, Nat.zero_le _⟩ dX2_crowd_6 ?_
  refine gx_istore_n (lv' := [(3, .int (nI (ls_bx L).length)), (2, .int 0), (0, .ref (g 0)), (1, .int a1)]) C dX2_crowd_9 rfl (by decide) rfl ?_
  refine gx_iconst (v := 0) C dX2_crowd_10 (by decide) ?_
  refine gx_istore (lv' := [(4, .int 0), (3, .int (nI (ls_bx L).length)), (2, .int 0), (0, .ref (g 0)), (1, .int a1)]) C dX2_crowd_11 (by decide) rfl ?_
  refine gx_sub [3, 4, 2, 1, 0] rfl ?_
  obtain ⟨n, h⟩ := h
  exact le_X2_crowd_13 C hK hG hA n L a1 0 (nI (ls_bx L).length) 0 h
/-! Land.shared(JI)I -/
abbrev rmX2_shared : Room := { frames := 4, cells := 0, slots := 0, locals := 89 }
theorem dmX2_shared : yX2_shared.cls ≠ "java/lang/invoke/MethodHandle" ∧ yX2_shared.cls ≠ "java/lang/invoke/VarHandle" ∧ (parseMethodDescriptor yX2_shared.desc).map (fun d => d.parameters.length) = some 2 := by decide +kernel
def lj_X2_shared_57 (L : LSt) (a1 : Int64) (a3 : Int32) (a4 : Int32) (a5 : Int32) (k6 : LSt → Int64 → Int32 → Int32 → Int32 → Prop) (Q : Int32 → LSt → Prop) : Prop :=
  k6 L a1 a3 a4 (a5 + 1)
theorem lb_X2_shared_57 {l : Launch} {p : Program} {e : Env} {s : State} {m : MethodId} {args : Array Value} {below : List Frame} {meth : Method} {c : Code} {D : va_G} {t0 : Nat} {g : Nat → Nat} {ca : Nat → ClassId} {A : Nat → Prop} (C : gx_C p s m args meth c cX2_shared 6 (some .int) RX2) (hK : gK D ca s) (hG : gZ t0 A s) (hA : ∀ q, s.heap.size ≤ q → A q) {L : LSt} {a1 : Int64} {a3 : Int32} {a4 : Int32} {a5 : Int32} {k6 : LSt → Int64 → Int32 → Int32 → Int32 → Prop} {Q : Int32 → LSt → Prop} (h : lj_X2_shared_57 L a1 a3 a4 a5 k6 Q) (hk6 : ∀ (L : LSt) (a1 : Int64) (a3 : Int32) (a4 : Int32) (a5 : Int32), k6 L a1 a3 a4 a5 → gx_W p l e (headSpec (ws_ yX2_shared cX2_shared 6 (some .int)) rmX2_shared).room s m args below meth c 6 (lm_I D t0 g ca A s L []) 0 0 (MQ below (va_Qi Q (lm_B D t0 g ca A) A) args s 0 0 A) 6 [(0, .ref (g 0)), (1, .long a1), (3, .int a3), (4, .int a4), (5, .int a5)] []) : gx_W p l e (headSpec (ws_ yX2_shared cX2_shared 6 (some .int)) rmX2_shared).room s m args below meth c 6 (lm_I D t0 g ca A s L []) 0 0 (MQ below (va_Qi Q (lm_B D t0 g ca A) A) args s 0 0 A) 57 [(0, .ref (g 0)), (1, .long a1), (3, .int a3), (4, .int a4), (5, .int a5)] [] := by
  unfold lj_X2_shared_57 at h
  refine gx_iinc (v := a5 + 1) (k := 4) (lv' := [(5, .int (a5 + 1)), (0, .ref (g 0)), (1, .long a1), (3, .int a3), (4, .int a4)]) C dX2_shared_57 rfl rfl (by decide) rfl ?_
  refine gx_goto (tgt := 6) C dX2_shared_60 (by decide) ?_
  refine gx_sub [1, 2, 3, 4, 0] rfl ?_
  exact hk6 L a1 a3 a4 (a5 + 1) h
def lj_X2_shared_6 (L : LSt) (a1 : Int64) (a3 : Int32) (a4 : Int32) (a5 : Int32) (k6 : LSt → Int64 → Int32 → Int32 → Int32 → Prop) (Q : Int32 → LSt → Prop) : Prop :=
  ((64 ≤ a5 → Q a4 L) ∧ (¬ (64 ≤ a5) → pw_X1_has a1 a5 (fun r16 => ((r16 = 0 → lj_X2_shared_57 L a1 a3 a4 a5 k6 Q) ∧ (¬ (r16 = 0) → lw_X2_crowd L a5 (fun r31 L31 => (vp_in a5 64 ∧ (∀ L36 : LSt, L36 = ls_a L31 2 a5 (r31 + a3) → (vp_in a5 64 ∧ (vp_in a5 64 ∧ (¬ (ls_r L36 2 a5) = 0 ∧ lj_X2_shared_57 L36 a1 a3 (a4 + ((ls_r L36 1 a5) / (ls_r L36 2 a5))) a5 k6 Q)))))))))))
theorem lb_X2_shared_6 {l : Launch} {p : Program} {e : Env} {s : State} {m : MethodId} {args : Array Value} {below : List Frame} {meth : Method} {c : Code} {D : va_G} {t0 : Nat} {g : Nat → Nat} {ca : Nat → ClassId} {A : Nat → Prop} (C : gx_C p s m args meth c cX2_shared 6 (some .int) RX2) (hK : gK D ca s) (hG : gZ t0 A s) (hA : ∀ q, s.heap.size ≤ q → A q) {L : LSt} {a1 : Int64} {a3 : Int32} {a4 : Int32} {a5 : Int32} {k6 : LSt → Int64 → Int32 → Int32 → Int32 → Prop} {Q : Int32 → LSt → Prop} (h : lj_X2_shared_6 L a1 a3 a4 a5 k6 Q) (hk6 : ∀ (L : LSt) (a1 : Int64) (a3 : Int32) (a4 : Int32) (a5 : Int32), k6 L a1 a3 a4 a5 → gx_W p l e (headSpec (ws_ yX2_shared cX2_shared 6 (some .int)) rmX2_shared).room s m args below meth c 6 (lm_I D t0 g ca A s L []) 0 0 (MQ below (va_Qi Q (lm_B D t0 g ca A) A) args s 0 0 A) 6 [(0, .ref (g 0)), (1, .long a1), (3, .int a3), (4, .int a4), (5, .int a5)] []) : gx_W p l e (headSpec (ws_ yX2_shared cX2_shared 6 (some .int)) rmX2_shared).room s m args below meth c 6 (lm_I D t0 g ca A s L []) 0 0 (MQ below (va_Qi Q (lm_B D t0 g ca A) A) args s 0 0 A) 6 [(0, .ref (g 0)), (1, .long a1), (3, .int a3), (4, .int a4), (5, .int a5)] [] := by
  unfold lj_X2_shared_6 at h
  refine gx_iload C dX2_shared_6 4 rfl ?_
  refine gx_bipush (v := 64) C dX2_shared_8 (by decide) ?_
  refine gx_icmp_ge (tgt := 63) C dX2_shared_10 (by decide) (fun z => ?_) (fun z => ?_)
  · replace h := h.1 z
    refine gx_iload C dX2_shared_63 3 rfl ?_
    exact lm_iret C h (Nat.le_refl _) (Nat.le_refl _) dX2_shared_65
  · replace h := h.2 z
    refine gx_lload_n C dX2_shared_13 rfl 1 rfl ?_
    refine gx_iload C dX2_shared_14 4 rfl ?_
    refine gw_callsN (rest := []) C (pk_X1_has h) ⟨va_cnB 2 C.t (lw_meth q1427) rfl rfl rfl (hK.2.2.1 _ _ _ _ q1425) (C.t _ q119) dmX1_has ⟨Nat.le_of_ble_eq_true rfl, Nat.le_of_ble_eq_true rfl⟩, C.t _ q1426, trivial⟩ rfl rfl (Nat.le_of_ble_eq_true rfl) ⟨Nat.zero_le _, Nat.zero_le _⟩ dX2_shared_16 (fun r16 h => ?_)
    refine gx_if_eq (tgt := 57) C dX2_shared_19 (by decide) (fun z => ?_) (fun z => ?_)
    · replace h := h.1 z
      exact lb_X2_shared_57 C hK hG hA h hk6
    · replace h := h.2 z
      refine gx_aload_n C dX2_shared_22 rfl 0 rfl ?_
      refine gw_get C hK in_X2 rfl ll_H0 2 (by decide) q236 rfl rfl dX2_shared_23 ?_
      refine gx_iload C dX2_shared_26 4 rfl ?_
      refine gx_aload_n C dX2_shared_28 rfl 0 rfl ?_
      refine gx_iload C dX2_shared_29 4 rfl ?_
      refine lm_calli (rest := [.int a5, .ref (g 3)]) C hK hG hA (fun Z sz => lk_X2_crowd h) (cwV 1 C.t (lw_V q1435 q1436 q1437 q120 q1438) rfl rfl rfl ⟨rfl, dmX2_crowd⟩ ⟨Nat.le_of_ble_eq_true rfl, Nat.le_of_ble_eq_true rfl⟩) rfl rfl (Nat.le_of_ble_eq_true rfl) ⟨Nat.zero_le _, Nat.zero_le _⟩ dX2_shared_31 (fun r31 L31 h => ?_)
      refine gx_iload_n C dX2_shared_34 rfl 2 rfl ?_
      refine gx_iadd C dX2_shared_35 ?_
      obtain ⟨g36, h⟩ := h
      refine gw_iast C hK (ll_Ua2 _ _) g36 dX2_shared_36 ?_
      refine lm_name (fun L36 e_L36 => ?_)
      replace h := h L36 e_L36
      refine gx_iload C dX2_shared_37 3 rfl ?_
      refine gx_aload_n C dX2_shared_39 rfl 0 rfl ?_
      refine gw_get C hK in_X2 rfl ll_H0 1 (by decide) q234 rfl rfl dX2_shared_40 ?_
      refine gx_iload C dX2_shared_43 4 rfl ?_
      obtain ⟨g45, h⟩ := h
      refine gw_iald C hK ll_Ha1 g45 dX2_shared_45 ?_
      refine gx_aload_n C dX2_shared_46 rfl 0 rfl ?_
      refine gw_get C hK in_X2 rfl ll_H0 2 (by decide) q236 rfl rfl dX2_shared_47 ?_
      refine gx_iload C dX2_shared_50 4 rfl ?_
      obtain ⟨g52, h⟩ := h
      refine gw_iald C hK ll_Ha2 g52 dX2_shared_52 ?_
      obtain ⟨g53, h⟩ := h
      refine gx_idiv C dX2_shared_53 g53 ?_
      refine gx_iadd C dX2_shared_54 ?_
      refine gx_istore (lv' := [(4, .int (a4 + ((ls_r L36 1 a5) / (ls_r L36 2 a5)))), (0, .ref (g 0)), (1, .long a1), (3, .int a3), (5, .int a5)]) C dX2_shared_55 (by decide) rfl ?_
      refine gx_sub [1, 2, 3, 0, 4] rfl ?_
      exact lb_X2_shared_57 C hK hG hA h hk6
def ll_X2_shared_6 (Q : Int32 → LSt → Prop) : Nat → LSt → Int64 → Int32 → Int32 → Int32 → Prop
  | 0, _, _, _, _, _ => False
  | n + 1, L, a1, a3, a4, a5 => lj_X2_shared_6 L a1 a3 a4 a5 (fun L a1 a3 a4 a5 => ll_X2_shared_6 Q n L a1 a3 a4 a5) Q
theorem le_X2_shared_6 {l : Launch} {p : Program} {e : Env} {s : State} {m : MethodId} {args : Array Value} {below : List Frame} {meth : Method} {c : Code} {D : va_G} {t0 : Nat} {g : Nat → Nat} {ca : Nat → ClassId} {A : Nat → Prop} (C : gx_C p s m args meth c cX2_shared 6 (some .int) RX2) (hK : gK D ca s) (hG : gZ t0 A s) (hA : ∀ q, s.heap.size ≤ q → A q) {Q : Int32 → LSt → Prop}  (n : Nat) : ∀ (L : LSt) (a1 : Int64) (a3 : Int32) (a4 : Int32) (a5 : Int32), ll_X2_shared_6 Q n L a1 a3 a4 a5 → gx_W p l e (headSpec (ws_ yX2_shared cX2_shared 6 (some .int)) rmX2_shared).room s m args below meth c 6 (lm_I D t0 g ca A s L []) 0 0 (MQ below (va_Qi Q (lm_B D t0 g ca A) A) args s 0 0 A) 6 [(0, .ref (g 0)), (1, .long a1), (3, .int a3), (4, .int a4), (5, .int a5)] [] := by
  induction n with
  | zero => intro L a1 a3 a4 a5 h; exact False.elim h
  | succ n ih => intro L a1 a3 a4 a5 h; exact lb_X2_shared_6 C hK hG hA (show lj_X2_shared_6 L a1 a3 a4 a5 (fun L a1 a3 a4 a5 => ll_X2_shared_6 Q n L a1 a3 a4 a5) Q from h) (fun L a1 a3 a4 a5 h => ih L a1 a3 a4 a5 h)
def lw_X2_shared (L : LSt) (a1 : Int64) (a3 : Int32) (Q : Int32 → LSt → Prop) : Prop :=
  ∃ n : Nat, ll_X2_shared_6 Q n L a1 a3 0 0
theorem lk_X2_shared {l : Launch} {D : va_G} {t0 : Nat} {g : Nat → Nat} {ca : Nat → ClassId} {Z : va_W} {sz : Nat} {L : LSt} {a1 : Int64} {a3 : Int32} {Q : Int32 → LSt → Prop} (h : lw_X2_shared L a1 a3 Q) : lm_Met l yX2_shared cX2_shared 6 (some .int) rmX2_shared [.long a1, .int a3] D t0 g ca Z sz L (va_Qi Q (lm_B D t0 g ca (va_A (lm_ws g ca L Z) sz)) (va_A (lm_ws g ca L Z) sz)) 0 0 := by
  refine lm_entry (by decide) (Nat.le_of_ble_eq_true rfl) (fun p e s m args below meth c A eA hA hG C hK => ?_)
  rw [eA]
  unfold lw_X2_shared at h
  show gx_W p l e (headSpec (ws_ yX2_shared cX2_shared 6 (some .int)) rmX2_shared).room s m args below meth c 6 (lm_I D t0 g ca A s L []) 0 0 (MQ below (va_Qi Q (lm_B D t0 g ca A) A) args s 0 0 A) 0 [(0, .ref (g 0)), (1, .long a1), (3, .int a3)] []
  refine gx_iconst (v := 0) C dX2_shared_0 (by decide) ?_
  refine gx_istore (lv' := [(4, .int 0), (0, .ref (g 0)), (1, .long a1), (3, .int a3)]) C dX2_shared_1 (by decide) rfl ?_
  refine gx_iconst (v := 0) C dX2_shared_3 (by decide) ?_
  refine gx_istore (lv' := [(5, .int 0), (4, .int 0), (0, .ref (g 0)), (1, .long a1), (3, .int a3)]) C dX2_shared_4 (by decide) rfl ?_
  refine gx_sub [2, 3, 4, 1, 0] rfl ?_
  obtain ⟨n, h⟩ := h
  exact le_X2_shared_6 C hK hG hA n L a1 a3 0 0 h
/-! Land.share(LOwlYears$Box;)I -/
abbrev rmX2_share : Room := { frames := 5, cells := 0, slots := 0, locals := 114 }
theorem dmX2_share : yX2_share.cls ≠ "java/lang/invoke/MethodHandle" ∧ yX2_share.cls ≠ "java/lang/invoke/VarHandle" ∧ (parseMethodDescriptor yX2_share.desc).map (fun d => d.parameters.length) = some 1 := by decide +kernel
def lw_X2_share (L : LSt) (a1 : Nat) (Q : Int32 → LSt → Prop) : Prop :=
  (a1 ∈ ls_bx L ∧ rw_X5_isLivedIn (ls_br L a1) (fun r6 => lw_X2_shared L (ls_bg L a1) (if r6 = 0 then 1 else 0) (fun r17 L17 => Q r17 L17)))
theorem lk_X2_share {l : Launch} {D : va_G} {t0 : Nat} {g : Nat → Nat} {ca : Nat → ClassId} {Z : va_W} {sz : Nat} {L : LSt} {a1 : Nat} {Q : Int32 → LSt → Prop} (h : lw_X2_share L a1 Q) : lm_Met l yX2_share cX2_share 2 (some .int) rmX2_share [.ref a1] D t0 g ca Z sz L (va_Qi Q (lm_B D t0 g ca (va_A (lm_ws g ca L Z) sz)) (va_A (lm_ws g ca L Z) sz)) 0 0 := by
  refine lm_entry (by decide) (Nat.le_of_ble_eq_true rfl) (fun p e s m args below meth c A eA hA hG C hK => ?_)
  rw [eA]
  unfold lw_X2_share at h
  show gx_W p l e (headSpec (ws_ yX2_share cX2_share 2 (some .int)) rmX2_share).room s m args below meth c 2 (lm_I D t0 g ca A s L []) 0 0 (MQ below (va_Qi Q (lm_B D t0 g ca A) A) args s 0 0 A) 0 [(0, .ref (g 0)), (1, .ref a1)] []
  refine gx_aload_n C dX2_share_0 rfl 0 rfl ?_
  refine gx_aload_n C dX2_share_1 rfl 1 rfl ?_
  obtain ⟨m2, h⟩ := h
  refine gw_getN C hK in_X5 rfl (ll_Hb m2) 2 (by decide) q396 rfl rfl dX2_share_2 ?_
  refine gx_aload_n C dX2_share_5 rfl 1 rfl ?_
  refine gw_roi (rest := [.long (ls_bg L a1), .ref (g 0)]) C (rk_X5_isLivedIn h) (cwV 0 C.t (lw_V q1439 q1440 q1441 q151 q1442) rfl rfl rfl ⟨rfl, dmX5_isLivedIn⟩ ⟨Nat.le_of_ble_eq_true rfl, Nat.le_of_ble_eq_true rfl⟩) (ro_pre hK (ci := 4) (q := (RX5, TX5, 3)) rfl (ll_Hb m2) (lm_bws m2)) rfl rfl (Nat.le_of_ble_eq_true rfl) ⟨Nat.zero_le _, Nat.zero_le _⟩ dX2_share_6 (fun r6 h => ?_)
  refine gx_phii (t := (if r6 = 0 then 1 else 0)) (pc2 := 17) (lv2 := [(0, .ref (g 0)), (1, .ref a1)]) (rest2 := [.long (ls_bg L a1), .ref (g 0)]) (fun key => ?_) ?_
  · refine gx_if_eq (tgt := 16) C dX2_share_9 (by decide) (fun z1 => ?_) (fun z1 => ?_)
    · refine gx_iconst (v := 1) C dX2_share_16 (by decide) ?_
      exact gx_casti (if_pos z1) key
    · refine gx_iconst (v := 0) C dX2_share_12 (by decide) ?_
      refine gx_goto (tgt := 17) C dX2_share_13 (by decide) ?_
      exact gx_casti (if_neg z1) key
  refine lm_calli (rest := []) C hK hG hA (fun Z sz => lk_X2_shared h) (cwV 2 C.t (lw_V q1431 q1433 qs9 q120 q1434) rfl rfl rfl ⟨rfl, dmX2_shared⟩ ⟨Nat.le_of_ble_eq_true rfl, Nat.le_of_ble_eq_true rfl⟩) rfl rfl (Nat.le_of_ble_eq_true rfl) ⟨Nat.zero_le _, Nat.zero_le _⟩ dX2_share_17 (fun r17 L17 h => ?_)
  exact lm_iret C h (Nat.le_refl _) (Nat.le_refl _) dX2_share_20
/-! Land.risk(LOwlYears$Box;)I -/
abbrev rmX2_risk : Room := { frames := 2, cells := 0, slots := 0, locals := 42 }
theorem dmX2_risk : yX2_risk.cls ≠ "java/lang/invoke/MethodHandle" ∧ yX2_risk.cls ≠ "java/lang/invoke/VarHandle" ∧ (parseMethodDescriptor yX2_risk.desc).map (fun d => d.parameters.length) = some 1 := by decide +kernel
def lj_X2_risk_36 (L : LSt) (a1 : Nat) (a3 : Int32) (s0 : Int32) (s1 : Int32) (k4 : LSt → Nat → Int32 → Int32 → Prop) (Q : Int32 → LSt → Prop) : Prop :=
  k4 L a1 (s0 + s1) (a3 + 1)
theorem lb_X2_risk_36 {l : Launch} {p : Program} {e : Env} {s : State} {m : MethodId} {args : Array Value} {below : List Frame} {meth : Method} {c : Code} {D : va_G} {t0 : Nat} {g : Nat → Nat} {ca : Nat → ClassId} {A : Nat → Prop} (C : gx_C p s m args meth c cX2_risk 4 (some .int) RX2) (hK : gK D ca s) (hG : gZ t0 A s) (hA : ∀ q, s.heap.size ≤ q → A q) {L : LSt} {a1 : Nat} {a3 : Int32} {s0 : Int32} {s1 : Int32} {k4 : LSt → Nat → Int32 → Int32 → Prop} {Q : Int32 → LSt → Prop} (h : lj_X2_risk_36 L a1 a3 s0 s1 k4 Q) (hk4 : ∀ (L : LSt) (a1 : Nat) (a2 : Int32) (a3 : Int32), k4 L a1 a2 a3 → gx_W p l e (headSpec (ws_ yX2_risk cX2_risk 4 (some .int)) rmX2_risk).room s m args below meth c 4 (lm_I D t0 g ca A s L []) 0 0 (MQ below (va_Qi Q (lm_B D t0 g ca A) A) args s 0 0 A) 4 [(0, .ref (g 0)), (1, .ref a1), (2, .int a2), (3, .int a3)] []) : gx_W p l e (headSpec (ws_ yX2_risk cX2_risk 4 (some .int)) rmX2_risk).room s m args below meth c 4 (lm_I D t0 g ca A s L []) 0 0 (MQ below (va_Qi Q (lm_B D t0 g ca A) A) args s 0 0 A) 36 [(0, .ref (g 0)), (1, .ref a1), (3, .int a3)] [.int s1, .int s0] := by
  unfold lj_X2_risk_36 at h
  refine gx_iadd C dX2_risk_36 ?_
  refine gx_istore_n (lv' := [(2, .int (s0 + s1)), (0, .ref (g 0)), (1, .ref a1), (3, .int a3)]) C dX2_risk_37 rfl (by decide) rfl ?_
  refine gx_iinc (v := a3 + 1) (k := 3) (lv' := [(3, .int (a3 + 1)), (2, .int (s0 + s1)), (0, .ref (g 0)), (1, .ref a1)]) C dX2_risk_38 rfl rfl (by decide) rfl ?_
  refine gx_goto (tgt := 4) C dX2_risk_41 (by decide) ?_
  refine gx_sub [2, 3, 1, 0] rfl ?_
  exact hk4 L a1 (s0 + s1) (a3 + 1) h
def lj_X2_risk_35 (L : LSt) (a1 : Nat) (a3 : Int32) (s0 : Int32) (k4 : LSt → Nat → Int32 → Int32 → Prop) (Q : Int32 → LSt → Prop) : Prop :=
  lj_X2_risk_36 L a1 a3 s0 0 k4 Q
theorem lb_X2_risk_35 {l : Launch} {p : Program} {e : Env} {s : State} {m : MethodId} {args : Array Value} {below : List Frame} {meth : Method} {c : Code} {D : va_G} {t0 : Nat} {g : Nat → Nat} {ca : Nat → ClassId} {A : Nat → Prop} (C : gx_C p s m args meth c cX2_risk 4 (some .int) RX2) (hK : gK D ca s) (hG : gZ t0 A s) (hA : ∀ q, s.heap.size ≤ q → A q) {L : LSt} {a1 : Nat} {a3 : Int32} {s0 : Int32} {k4 : LSt → Nat → Int32 → Int32 → Prop} {Q : Int32 → LSt → Prop} (h : lj_X2_risk_35 L a1 a3 s0 k4 Q) (hk4 : ∀ (L : LSt) (a1 : Nat) (a2 : Int32) (a3 : Int32), k4 L a1 a2 a3 → gx_W p l e (headSpec (ws_ yX2_risk cX2_risk 4 (some .int)) rmX2_risk).room s m args below meth c 4 (lm_I D t0 g ca A s L []) 0 0 (MQ below (va_Qi Q (lm_B D t0 g ca A) A) args s 0 0 A) 4 [(0, .ref (g 0)), (1, .ref a1), (2, .int a2), (3, .int a3)] []) : gx_W p l e (headSpec (ws_ yX2_risk cX2_risk 4 (some .int)) rmX2_risk).room s m args below meth c 4 (lm_I D t0 g ca A s L []) 0 0 (MQ below (va_Qi Q (lm_B D t0 g ca A) A) args s 0 0 A) 35 [(0, .ref (g 0)), (1, .ref a1), (3, .int a3)] [.int s0] := by
  unfold lj_X2_risk_35 at h
  refine gx_iconst (v := 0) C dX2_risk_35 (by decide) ?_
  exact lb_X2_risk_36 C hK hG hA h hk4
def lj_X2_risk_4 (L : LSt) (a1 : Nat) (a2 : Int32) (a3 : Int32) (k4 : LSt → Nat → Int32 → Int32 → Prop) (Q : Int32 → LSt → Prop) : Prop :=
  ((64 ≤ a3 → Q a2 L) ∧ (¬ (64 ≤ a3) → (a1 ∈ ls_bx L ∧ pw_X1_far a3 (ls_bs L a1) (fun r16 => ((2 < r16 → lj_X2_risk_35 L a1 a3 a2 k4 Q) ∧ (¬ (2 < r16) → lw_X2_isRoad L a3 (fun r25 L25 => ((r25 = 0 → lj_X2_risk_35 L25 a1 a3 a2 k4 Q) ∧ (¬ (r25 = 0) → lj_X2_risk_36 L25 a1 a3 a2 4 k4 Q)))))))))
theorem lb_X2_risk_4 {l : Launch} {p : Program} {e : Env} {s : State} {m : MethodId} {args : Array Value} {below : List Frame} {meth : Method} {c : Code} {D : va_G} {t0 : Nat} {g : Nat → Nat} {ca : Nat → ClassId} {A : Nat → Prop} (C : gx_C p s m args meth c cX2_risk 4 (some .int) RX2) (hK : gK D ca s) (hG : gZ t0 A s) (hA : ∀ q, s.heap.size ≤ q → A q) {L : LSt} {a1 : Nat} {a2 : Int32} {a3 : Int32} {k4 : LSt → Nat → Int32 → Int32 → Prop} {Q : Int32 → LSt → Prop} (h : lj_X2_risk_4 L a1 a2 a3 k4 Q) (hk4 : ∀ (L : LSt) (a1 : Nat) (a2 : Int32) (a3 : Int32), k4 L a1 a2 a3 → gx_W p l e (headSpec (ws_ yX2_risk cX2_risk 4 (some .int)) rmX2_risk).room s m args below meth c 4 (lm_I D t0 g ca A s L []) 0 0 (MQ below (va_Qi Q (lm_B D t0 g ca A) A) args s 0 0 A) 4 [(0, .ref (g 0)), (1, .ref a1), (2, .int a2), (3, .int a3)] []) : gx_W p l e (headSpec (ws_ yX2_risk cX2_risk 4 (some .int)) rmX2_risk).room s m args below meth c 4 (lm_I D t0 g ca A s L []) 0 0 (MQ below (va_Qi Q (lm_B D t0 g ca A) A) args s 0 0 A) 4 [(0, .ref (g 0)), (1, .ref a1), (2, .int a2), (3, .int a3)] [] := by
  unfold lj_X2_risk_4 at h
  refine gx_iload_n C dX2_risk_4 rfl 3 rfl ?_
  refine gx_bipush (v := 64) C dX2_risk_5 (by decide) ?_
  refine gx_icmp_ge (tgt := 44) C dX2_risk_7 (by decide) (fun z => ?_) (fun z => ?_)
  · replace h := h.1 z
    refine gx_iload_n C dX2_risk_44 rfl 2 rfl ?_
    exact lm_iret C h (Nat.le_refl _) (Nat.le_refl _) dX2_risk_45
  · replace h := h.2 z
    refine gx_iload_n C dX2_risk_10 rfl 2 rfl ?_
    refine gx_iload_n C dX2_risk_11 rfl 3 rfl ?_
    refine gx_aload_n C dX2_risk_12 rfl 1 rfl ?_
    obtain ⟨m13, h⟩ := h
    refine gw_getN C hK in_X5 rfl (ll_Hb m13) 0 (by decide) q390 rfl rfl dX2_risk_13 ?_
    refine gw_callsN (rest := [.int a2]) C (pk_X1_far h) ⟨va_cnB 2 C.t (lw_meth q1420) rfl rfl rfl (hK.2.2.1 _ _ _ _ q1418) (C.t _ q119) dmX1_far ⟨Nat.le_of_ble_eq_true rfl, Nat.le_of_ble_eq_true rfl⟩, C.t _ q1419, trivial⟩ rfl rfl (Nat.le_of_ble_eq_true rfl) ⟨Nat.zero_le _, Nat.zero_le _⟩ dX2_risk_16 (fun r16 h => ?_)
    refine gx_iconst (v := 2) C dX2_risk_19 (by decide) ?_
    refine gx_icmp_gt (tgt := 35) C dX2_risk_20 (by decide) (fun z => ?_) (fun z => ?_)
    · replace h := h.1 z
      refine gx_sub [0, 1, 3] rfl ?_
      exact lb_X2_risk_35 C hK hG hA h hk4
    · replace h := h.2 z
      refine gx_aload_n C dX2_risk_23 rfl 0 rfl ?_
      refine gx_iload_n C dX2_risk_24 rfl 3 rfl ?_
      refine lm_calli (rest := [.int a2]) C hK hG hA (fun Z sz => lk_X2_isRoad h) (cwV 1 C.t (lw_V q1390 q1391 q1392 q120 q1393) rfl rfl rfl ⟨rfl, dmX2_isRoad⟩ ⟨Nat.le_of_ble_eq_true rfl, Nat.le_of_ble_eq_true rfl⟩) rfl rfl (Nat.le_of_ble_eq_true rfl) ⟨Nat.zero_le _, Nat.zero_le _⟩ dX2_risk_25 (fun r25 L25 h => ?_)
      refine gx_if_eq (tgt := 35) C dX2_risk_28 (by decide) (fun z => ?_) (fun z => ?_)
      · replace h := h.1 z
        refine gx_sub [0, 1, 3] rfl ?_
        exact lb_X2_risk_35 C hK hG hA h hk4
      · replace h := h.2 z
        refine gx_iconst (v := 4) C dX2_risk_31 (by decide) ?_
        refine gx_goto (tgt := 36) C dX2_risk_32 (by decide) ?_
        refine gx_sub [0, 1, 3] rfl ?_
        exact lb_X2_risk_36 C hK hG hA h hk4
def ll_X2_risk_4 (Q : Int32 → LSt → Prop) : Nat → LSt → Nat → Int32 → Int32 → Prop
  | 0, _, _, _, _ => False
  | n + 1, L, a1, a2, a3 => lj_X2_risk_4 L a1 a2 a3 (fun L a1 a2 a3 => ll_X2_risk_4 Q n L a1 a2 a3) Q
theorem le_X2_risk_4 {l : Launch} {p : Program} {e : Env} {s : State} {m : MethodId} {args : Array Value} {below : List Frame} {meth : Method} {c : Code} {D : va_G} {t0 : Nat} {g : Nat → Nat} {ca : Nat → ClassId} {A : Nat → Prop} (C : gx_C p s m args meth c cX2_risk 4 (some .int) RX2) (hK : gK D ca s) (hG : gZ t0 A s) (hA : ∀ q, s.heap.size ≤ q → A q) {Q : Int32 → LSt → Prop}  (n : Nat) : ∀ (L : LSt) (a1 : Nat) (a2 : Int32) (a3 : Int32), ll_X2_risk_4 Q n L a1 a2 a3 → gx_W p l e (headSpec (ws_ yX2_risk cX2_risk 4 (some .int)) rmX2_risk).room s m args below meth c 4 (lm_I D t0 g ca A s L []) 0 0 (MQ below (va_Qi Q (lm_B D t0 g ca A) A) args s 0 0 A) 4 [(0, .ref (g 0)), (1, .ref a1), (2, .int a2), (3, .int a3)] [] := by
  induction n with
  | zero => intro L a1 a2 a3 h; exact False.elim h
  | succ n ih => intro L a1 a2 a3 h; exact lb_X2_risk_4 C hK hG hA (show lj_X2_risk_4 L a1 a2 a3 (fun L a1 a2 a3 => ll_X2_risk_4 Q n L a1 a2 a3) Q from h) (fun L a1 a2 a3 h => ih L a1 a2 a3 h)
def lw_X2_risk (L : LSt) (a1 : Nat) (Q : Int32 → LSt → Prop) : Prop :=
  ∃ n : Nat, ll_X2_risk_4 Q n L a1 0 0
theorem lk_X2_risk {l : Launch} {D : va_G} {t0 : Nat} {g : Nat → Nat} {ca : Nat → ClassId} {Z : va_W} {sz : Nat} {L : LSt} {a1 : Nat} {Q : Int32 → LSt → Prop} (h : lw_X2_risk L a1 Q) : lm_Met l yX2_risk cX2_risk 4 (some .int) rmX2_risk [.ref a1] D t0 g ca Z sz L (va_Qi Q (lm_B D t0 g ca (va_A (lm_ws g ca L Z) sz)) (va_A (lm_ws g ca L Z) sz)) 0 0 := by
  refine lm_entry (by decide) (Nat.le_of_ble_eq_true rfl) (fun p e s m args below meth c A eA hA hG C hK => ?_)
  rw [eA]
  unfold lw_X2_risk at h
  show gx_W p l e (headSpec (ws_ yX2_risk cX2_risk 4 (some .int)) rmX2_risk).room s m args below meth c 4 (lm_I D t0 g ca A s L []) 0 0 (MQ below (va_Qi Q (lm_B D t0 g ca A) A) args s 0 0 A) 0 [(0, .ref (g 0)), (1, .ref a1)] []
  refine gx_iconst (v := 0) C dX2_risk_0 (by decide) ?_
  refine gx_istore_n (lv' := [(2, .int 0), (0, .ref (g 0)), (1, .ref a1)]) C dX2_risk_1 rfl (by decide) rfl ?_
  refine gx_iconst (v := 0) C dX2_risk_2 (by decide) ?_
  refine gx_istore_n (lv' := [(3, .int 0), (2, .int 0), (0, .ref (g 0)), (1, .ref a1)]) C dX2_risk_3 rfl (by decide) rfl ?_
  refine gx_sub [2, 3, 1, 0] rfl ?_
  obtain ⟨n, h⟩ := h
  exact le_X2_risk_4 C hK hG hA n L a1 0 0 h
/-! Land.setLand(II)V -/
abbrev rmX2_setLand : Room := { frames := 5, cells := 0, slots := 0, locals := 118 }
theorem dmX2_setLand : yX2_setLand.cls ≠ "java/lang/invoke/MethodHandle" ∧ yX2_setLand.cls ≠ "java/lang/invoke/VarHandle" ∧ (parseMethodDescriptor yX2_setLand.desc).map (fun d => d.parameters.length) = some 2 := by decide +kernel
def lj_X2_setLand_27 (L : LSt) (s1 : Int32) (s2 : Int32) (Q : LSt → Prop) : Prop :=
  (vp_in s1 64 ∧ (∀ L27 : LSt, L27 = ls_a L 1 s1 s2 → lw_X2_tellRanges L27 (fun L29 => Q L29)))
theorem lb_X2_setLand_27 {l : Launch} {p : Program} {e : Env} {s : State} {m : MethodId} {args : Array Value} {below : List Frame} {meth : Method} {c : Code} {D : va_G} {t0 : Nat} {g : Nat → Nat} {ca : Nat → ClassId} {A : Nat → Prop} (C : gx_C p s m args meth c cX2_setLand 3 none RX2) (hK : gK D ca s) (hG : gZ t0 A s) (hA : ∀ q, s.heap.size ≤ q → A q) {L : LSt} {s1 : Int32} {s2 : Int32} {Q : LSt → Prop} (h : lj_X2_setLand_27 L s1 s2 Q)  : gx_W p l e (headSpec (ws_ yX2_setLand cX2_setLand 3 none) rmX2_setLand).room s m args below meth c 3 (lm_I D t0 g ca A s L []) 0 0 (MQ below (va_Qv Q (lm_B D t0 g ca A) A) args s 0 0 A) 27 [(0, .ref (g 0))] [.int s2, .int s1, .ref (g 2)] := by
  unfold lj_X2_setLand_27 at h
  obtain ⟨g27, h⟩ := h
  refine gw_iast C hK (ll_Ua1 _ _) g27 dX2_setLand_27 ?_
  refine lm_name (fun L27 e_L27 => ?_)
  replace h := h L27 e_L27
  refine gx_aload_n C dX2_setLand_28 rfl 0 rfl ?_
  refine lm_callv (rest := []) C hK hG hA (fun Z sz => lk_X2_tellRanges h) (cwV 0 C.t (lw_V q1572 q1574 qs27 q120 q1575) rfl rfl rfl ⟨rfl, dmX2_tellRanges⟩ ⟨Nat.le_of_ble_eq_true rfl, Nat.le_of_ble_eq_true rfl⟩) rfl rfl (Nat.le_of_ble_eq_true rfl) ⟨Nat.zero_le _, Nat.zero_le _⟩ dX2_setLand_29 (fun L29 h => ?_)
  exact lm_vret C h (Nat.le_refl _) (Nat.le_refl _) dX2_setLand_32
def lw_X2_setLand (L : LSt) (a1 : Int32) (a2 : Int32) (Q : LSt → Prop) : Prop :=
  (vp_in a1 64 ∧ (∀ L6 : LSt, L6 = ls_a L 0 a1 a2 → ((a2 = 3 → lj_X2_setLand_27 L6 a1 0 Q) ∧ (¬ (a2 = 3) → (vp_in a1 64 ∧ lj_X2_setLand_27 L6 a1 (ls_r L6 1 a1) Q)))))
theorem lk_X2_setLand {l : Launch} {D : va_G} {t0 : Nat} {g : Nat → Nat} {ca : Nat → ClassId} {Z : va_W} {sz : Nat} {L : LSt} {a1 : Int32} {a2 : Int32} {Q : LSt → Prop} (h : lw_X2_setLand L a1 a2 Q) : lm_Met l yX2_setLand cX2_setLand 3 none rmX2_setLand [.int a1, .int a2] D t0 g ca Z sz L (va_Qv Q (lm_B D t0 g ca (va_A (lm_ws g ca L Z) sz)) (va_A (lm_ws g ca L Z) sz)) 0 0 := by
  refine lm_entry (by decide) (Nat.le_of_ble_eq_true rfl) (fun p e s m args below meth c A eA hA hG C hK => ?_)
  rw [eA]
  unfold lw_X2_setLand at h
  show gx_W p l e (headSpec (ws_ yX2_setLand cX2_setLand 3 none) rmX2_setLand).room s m args below meth c 3 (lm_I D t0 g ca A s L []) 0 0 (MQ below (va_Qv Q (lm_B D t0 g ca A) A) args s 0 0 A) 0 [(0, .ref (g 0)), (1, .int a1), (2, .int a2)] []
  refine gx_aload_n C dX2_setLand_0 rfl 0 rfl ?_
  refine gw_get C hK in_X2 rfl ll_H0 0 (by decide) q232 rfl rfl dX2_setLand_1 ?_
  refine gx_iload_n C dX2_setLand_4 rfl 1 rfl ?_
  refine gx_iload_n C dX2_setLand_5 rfl 2 rfl ?_
  obtain ⟨g6, h⟩ := h
  refine gw_iast C hK (ll_Ua0 _ _) g6 dX2_setLand_6 ?_
  refine lm_name (fun L6 e_L6 => ?_)
  replace h := h L6 e_L6
  refine gx_aload_n C dX2_setLand_7 rfl 0 rfl ?_
  refine gw_get C hK in_X2 rfl ll_H0 1 (by decide) q234 rfl rfl dX2_setLand_8 ?_
  refine gx_iload_n C dX2_setLand_11 rfl 1 rfl ?_
  refine gx_iload_n C dX2_setLand_12 rfl 2 rfl ?_
  refine gx_iconst (v := 3) C dX2_setLand_13 (by decide) ?_
  refine gx_icmp_ne (tgt := 21) C dX2_setLand_14 (by decide) (fun z => ?_) (fun z => ?_)
  · replace h := h.2 z
    refine gx_aload_n C dX2_setLand_21 rfl 0 rfl ?_
    refine gw_get C hK in_X2 rfl ll_H0 1 (by decide) q234 rfl rfl dX2_setLand_22 ?_
    refine gx_iload_n C dX2_setLand_25 rfl 1 rfl ?_
    obtain ⟨g26, h⟩ := h
    refine gw_iald C hK ll_Ha1 g26 dX2_setLand_26 ?_
    refine gx_sub [0] rfl ?_
    exact lb_X2_setLand_27 C hK hG hA h
  · replace h := h.1 z
    refine gx_iconst (v := 0) C dX2_setLand_17 (by decide) ?_
    refine gx_goto (tgt := 27) C dX2_setLand_18 (by decide) ?_
    refine gx_sub [0] rfl ?_
    exact lb_X2_setLand_27 C hK hG hA h
/-! Land.known(I)LOwlYears$Owl; -/
abbrev rmX2_known : Room := { frames := 3, cells := 0, slots := 0, locals := 64 }
theorem dmX2_known : yX2_known.cls ≠ "java/lang/invoke/MethodHandle" ∧ yX2_known.cls ≠ "java/lang/invoke/VarHandle" ∧ (parseMethodDescriptor yX2_known.desc).map (fun d => d.parameters.length) = some 1 := by decide +kernel
def lj_X2_known_10 (L : LSt) (a1 : Int32) (a2 : Int32) (a3 : Int32) (k10 : LSt → Int32 → Int32 → Int32 → Prop) (Q : Option Nat → LSt → Prop) : Prop :=
  ((a2 ≤ a3 → Q none L) ∧ (¬ (a2 ≤ a3) → (vp_in a3 (ls_ow L).length ∧ ∀ o20 : Nat, o20 = (ls_ow L).getD a3.toNatClampNeg 0 → (((ls_of L 0 o20) = a1 → (vp_in a3 (ls_ow L).length ∧ ∀ o38 : Nat, o38 = (ls_ow L).getD a3.toNatClampNeg 0 → Q (some o38) L)) ∧ (¬ (ls_of L 0 o20) = a1 → k10 L a1 a2 (a3 + 1))))))
theorem lb_X2_known_10 {l : Launch} {p : Program} {e : Env} {s : State} {m : MethodId} {args : Array Value} {below : List Frame} {meth : Method} {c : Code} {D : va_G} {t0 : Nat} {g : Nat → Nat} {ca : Nat → ClassId} {A : Nat → Prop} (C : gx_C p s m args meth c cX2_known 4 (some (.object "OwlYears$Owl")) RX2) (hK : gK D ca s) (hG : gZ t0 A s) (hA : ∀ q, s.heap.size ≤ q → A q) {L : LSt} {a1 : Int32} {a2 : Int32} {a3 : Int32} {k10 : LSt → Int32 → Int32 → Int32 → Prop} {Q : Option Nat → LSt → Prop} (h : lj_X2_known_10 L a1 a2 a3 k10 Q) (hk10 : ∀ (L : LSt) (a1 : Int32) (a2 : Int32) (a3 : Int32), k10 L a1 a2 a3 → gx_W p l e (headSpec (ws_ yX2_known cX2_known 4 (some (.object "OwlYears$Owl"))) rmX2_known).room s m args below meth c 4 (lm_I D t0 g ca A s L []) 0 0 (MQ below (va_Qq Q (lm_B D t0 g ca A) A) args s 0 0 A) 10 [(0, .ref (g 0)), (1, .int a1), (2, .int a2), (3, .int a3)] []) : gx_W p l e (headSpec (ws_ yX2_known cX2_known 4 (some (.object "OwlYears$Owl"))) rmX2_known).room s m args below meth c 4 (lm_I D t0 g ca A s L []) 0 0 (MQ below (va_Qq Q (lm_B D t0 g ca A) A) args s 0 0 A) 10 [(0, .ref (g 0)), (1, .int a1), (2, .int a2), (3, .int a3)] [] := by
  unfold lj_X2_known_10 at h
  refine gx_iload_n C dX2_known_10 rfl 3 rfl ?_
  refine gx_iload_n C dX2_known_11 rfl 2 rfl ?_
  refine gx_icmp_ge (tgt := 51) C dX2_known_12 (by decide) (fun z => ?_) (fun z => ?_)
  · replace h := h.1 z
    refine gx_null C dX2_known_51 ?_
    exact lm_qret (r := none) (Or.inl ⟨_, rfl⟩) C h (Nat.le_refl _) (Nat.le_refl _) dX2_known_52
  · replace h := h.2 z
    refine gx_aload_n C dX2_known_15 rfl 0 rfl ?_
    refine gw_get C hK in_X2 rfl ll_H0 5 (by decide) q240 rfl rfl dX2_known_16 ?_
    refine gx_iload_n C dX2_known_19 rfl 3 rfl ?_
    obtain ⟨g20, h⟩ := h
    refine al_rget C hK ll_ol g20 (cwV 1 C.t (lw_V q364 q365 q366 q123 q367) rfl rfl rfl ⟨rfl, dmJ2_get⟩ ⟨Nat.le_of_ble_eq_true rfl, Nat.le_of_ble_eq_true rfl⟩) (Nat.le_of_ble_eq_true rfl) ⟨Nat.zero_le _, Nat.zero_le _⟩ dX2_known_20 (fun o20 e_o20 => ?_)
    replace h := h o20 e_o20
    have m_o20 : o20 ∈ ls_ow L := e_o20 ▸ al_mem g20
    refine gw_cast C hK (ci := 5) rfl (ll_Ho m_o20) q1213 dX2_known_23 ?_
    refine gw_getN C hK in_X6 rfl (ll_Ho m_o20) 0 (by decide) q1225 rfl rfl dX2_known_26 ?_
    refine gx_iload_n C dX2_known_29 rfl 1 rfl ?_
    refine gx_icmp_ne (tgt := 45) C dX2_known_30 (by decide) (fun z => ?_) (fun z => ?_)
    · replace h := h.2 z
      refine gx_iinc (v := a3 + 1) (k := 3) (lv' := [(3, .int (a3 + 1)), (0, .ref (g 0)), (1, .int a1), (2, .int a2)]) C dX2_known_45 rfl rfl (by decide) rfl ?_
      refine gx_goto (tgt := 10) C dX2_known_48 (by decide) ?_
      refine gx_sub [1, 2, 3, 0] rfl ?_
      exact hk10 L a1 a2 (a3 + 1) h
    · replace h := h.1 z
      refine gx_aload_n C dX2_known_33 rfl 0 rfl ?_
      refine gw_get C hK in_X2 rfl ll_H0 5 (by decide) q240 rfl rfl dX2_known_34 ?_
      refine gx_iload_n C dX2_known_37 rfl 3 rfl ?_
      obtain ⟨g38, h⟩ := h
      refine al_rget C hK ll_ol g38 (cwV 1 C.t (lw_V q364 q365 q366 q123 q367) rfl rfl rfl ⟨rfl, dmJ2_get⟩ ⟨Nat.le_of_ble_eq_true rfl, Nat.le_of_ble_eq_true rfl⟩) (Nat.le_of_ble_eq_true rfl) ⟨Nat.zero_le _, Nat.zero_le _⟩ dX2_known_38 (fun o38 e_o38 => ?_)
      replace h := h o38 e_o38
      have m_o38 : o38 ∈ ls_ow L := e_o38 ▸ al_mem g38
      refine gw_cast C hK (ci := 5) rfl (ll_Ho m_o38) q1213 dX2_known_41 ?_
      exact lm_qret (r := (some o38)) (Or.inl ⟨_, rfl⟩) C h (Nat.le_refl _) (Nat.le_refl _) dX2_known_44
def ll_X2_known_10 (Q : Option Nat → LSt → Prop) : Nat → LSt → Int32 → Int32 → Int32 → Prop
  | 0, _, _, _, _ => False
  | n + 1, L, a1, a2, a3 => lj_X2_known_10 L a1 a2 a3 (fun L a1 a2 a3 => ll_X2_known_10 Q n L a1 a2 a3) Q
theorem le_X2_known_10 {l : Launch} {p : Program} {e : Env} {s : State} {m : MethodId} {args : Array Value} {below : List Frame} {meth : Method} {c : Code} {D : va_G} {t0 : Nat} {g : Nat → Nat} {ca : Nat → ClassId} {A : Nat → Prop} (C : gx_C p s m args meth c cX2_known 4 (some (.object "OwlYears$Owl")) RX2) (hK : gK D ca s) (hG : gZ t0 A s) (hA : ∀ q, s.heap.size ≤ q → A q) {Q : Option Nat → LSt → Prop}  (n : Nat) : ∀ (L : LSt) (a1 : Int32) (a2 : Int32) (a3 : Int32), ll_X2_known_10 Q n L a1 a2 a3 → gx_W p l e (headSpec (ws_ yX2_known cX2_known 4 (some (.object "OwlYears$Owl"))) rmX2_known).room s m args below meth c 4 (lm_I D t0 g ca A s L []) 0 0 (MQ below (va_Qq Q (lm_B D t0 g ca A) A) args s 0 0 A) 10 [(0, .ref (g 0)), (1, .int a1), (2, .int a2), (3, .int a3)] [] := by
  induction n with
  | zero => intro L a1 a2 a3 h; exact False.elim h
  | succ n ih => intro L a1 a2 a3 h; exact lb_X2_known_10 C hK hG hA (show lj_X2_known_10 L a1 a2 a3 (fun L a1 a2 a3 => ll_X2_known_10 Q n L a1 a2 a3) Q from h) (fun L a1 a2 a3 h => ih L a1 a2 a3 h)
def lw_X2_known (L : LSt) (a1 : Int32) (Q : Option Nat → LSt → Prop) : Prop :=
  ∃ n : Nat, ll_X2_known_10 Q n L a1 (nI (ls_ow L).length) 0
theorem lk_X2_known {l : Launch} {D : va_G} {t0 : Nat} {g : Nat → Nat} {ca : Nat → ClassId} {Z : va_W} {sz : Nat} {L : LSt} {a1 : Int32} {Q : Option Nat → LSt → Prop} (h : lw_X2_known L a1 Q) : lm_Met l yX2_known cX2_known 4 (some (.object "OwlYears$Owl")) rmX2_known [.int a1] D t0 g ca Z sz L (va_Qq Q (lm_B D t0 g ca (va_A (lm_ws g ca L Z) sz)) (va_A (lm_ws g ca L Z) sz)) 0 0 := by
  refine lm_entry (by decide) (Nat.le_of_ble_eq_true rfl) (fun p e s m args below meth c A eA hA hG C hK => ?_)
  rw [eA]
  unfold lw_X2_known at h
  show gx_W p l e (headSpec (ws_ yX2_known cX2_known 4 (some (.object "OwlYears$Owl"))) rmX2_known).room s m args below meth c 4 (lm_I D t0 g ca A s L []) 0 0 (MQ below (va_Qq Q (lm_B D t0 g ca A) A) args s 0 0 A) 0 [(0, .ref (g 0)), (1, .int a1)] []
  refine gx_aload_n C dX2_known_0 rfl 0 rfl ?_
  refine gw_get C hK in_X2 rfl ll_H0 5 (by decide) q240 rfl rfl dX2_known_1 ?_
  refine al_rsize (n := 0) C hK ll_ol (cwV 0 C.t (lw_V q360 q361 q362 q123 q363) rfl rfl rfl ⟨rfl, dmJ2_size⟩ ⟨Nat.le_of_ble_eq_true rfl, Nat.le_of_ble_eq_true rfl⟩) (Nat.le_of_ble_eq_true rfl) ⟨Nat.zero_le _, Nat.zero_le _⟩ dX2_known_4 ?_
  refine gx_istore_n (lv' := [(2, .int (nI (ls_ow L).length)), (0, .ref (g 0)), (1, .int a1)]) C dX2_known_7 rfl (by decide) rfl ?_
  refine gx_iconst (v := 0) C dX2_known_8 (by decide) ?_
  refine gx_istore_n (lv' := [(3, .int 0), (2, .int (nI (ls_ow L).length)), (0, .ref (g 0)), (1, .int a1)]) C dX2_known_9 rfl (by decide) rfl ?_
  refine gx_sub [2, 3, 1, 0] rfl ?_
  obtain ⟨n, h⟩ := h
  exact le_X2_known_10 C hK hG hA n L a1 (nI (ls_ow L).length) 0 h
/-! Land.knownRing(I)I -/
abbrev rmX2_knownRing : Room := { frames := 4, cells := 0, slots := 0, locals := 87 }
theorem dmX2_knownRing : yX2_knownRing.cls ≠ "java/lang/invoke/MethodHandle" ∧ yX2_knownRing.cls ≠ "java/lang/invoke/VarHandle" ∧ (parseMethodDescriptor yX2_knownRing.desc).map (fun d => d.parameters.length) = some 1 := by decide +kernel
def lj_X2_knownRing_18 (L : LSt) (s0 : Int32) (Q : Int32 → LSt → Prop) : Prop :=
  Q s0 L
theorem lb_X2_knownRing_18 {l : Launch} {p : Program} {e : Env} {s : State} {m : MethodId} {args : Array Value} {below : List Frame} {meth : Method} {c : Code} {D : va_G} {t0 : Nat} {g : Nat → Nat} {ca : Nat → ClassId} {A : Nat → Prop} (C : gx_C p s m args meth c cX2_knownRing 2 (some .int) RX2) (hK : gK D ca s) (hG : gZ t0 A s) (hA : ∀ q, s.heap.size ≤ q → A q) {L : LSt} {s0 : Int32} {Q : Int32 → LSt → Prop} (h : lj_X2_knownRing_18 L s0 Q)  : gx_W p l e (headSpec (ws_ yX2_knownRing cX2_knownRing 2 (some .int)) rmX2_knownRing).room s m args below meth c 2 (lm_I D t0 g ca A s L []) 0 0 (MQ below (va_Qi Q (lm_B D t0 g ca A) A) args s 0 0 A) 18 [] [.int s0] := by
  unfold lj_X2_knownRing_18 at h
  exact lm_iret C h (Nat.le_refl _) (Nat.le_refl _) dX2_knownRing_18
def lj_X2_knownRing_13 (L : LSt) (Q : Int32 → LSt → Prop) : Prop :=
  lj_X2_knownRing_18 L (-1) Q
theorem lb_X2_knownRing_13 {l : Launch} {p : Program} {e : Env} {s : State} {m : MethodId} {args : Array Value} {below : List Frame} {meth : Method} {c : Code} {D : va_G} {t0 : Nat} {g : Nat → Nat} {ca : Nat → ClassId} {A : Nat → Prop} (C : gx_C p s m args meth c cX2_knownRing 2 (some .int) RX2) (hK : gK D ca s) (hG : gZ t0 A s) (hA : ∀ q, s.heap.size ≤ q → A q) {L : LSt} {Q : Int32 → LSt → Prop} (h : lj_X2_knownRing_13 L Q)  : gx_W p l e (headSpec (ws_ yX2_knownRing cX2_knownRing 2 (some .int)) rmX2_knownRing).room s m args below meth c 2 (lm_I D t0 g ca A s L []) 0 0 (MQ below (va_Qi Q (lm_B D t0 g ca A) A) args s 0 0 A) 13 [] [] := by
  unfold lj_X2_knownRing_13 at h
  refine gx_iconst (v := (-1)) C dX2_knownRing_13 (by decide) ?_
  refine gx_goto (tgt := 18) C dX2_knownRing_14 (by decide) ?_
  exact lb_X2_knownRing_18 C hK hG hA h
def lw_X2_knownRing (L : LSt) (a1 : Int32) (Q : Int32 → LSt → Prop) : Prop :=
  ((a1 = (-1) → lj_X2_knownRing_13 L Q) ∧ (¬ (a1 = (-1)) → lw_X2_known L a1 (fun r7 L7 => ((r7 = none → lj_X2_knownRing_13 L7 Q) ∧ (∀ o10, r7 = some o10 → lj_X2_knownRing_18 L7 a1 Q)))))
theorem lk_X2_knownRing {l : Launch} {D : va_G} {t0 : Nat} {g : Nat → Nat} {ca : Nat → ClassId} {Z : va_W} {sz : Nat} {L : LSt} {a1 : Int32} {Q : Int32 → LSt → Prop} (h : lw_X2_knownRing L a1 Q) : lm_Met l yX2_knownRing cX2_knownRing 2 (some .int) rmX2_knownRing [.int a1] D t0 g ca Z sz L (va_Qi Q (lm_B D t0 g ca (va_A (lm_ws g ca L Z) sz)) (va_A (lm_ws g ca L Z) sz)) 0 0 := by
  refine lm_entry (by decide) (Nat.le_of_ble_eq_true rfl) (fun p e s m args below meth c A eA hA hG C hK => ?_)
  rw [eA]
  unfold lw_X2_knownRing at h
  show gx_W p l e (headSpec (ws_ yX2_knownRing cX2_knownRing 2 (some .int)) rmX2_knownRing).room s m args below meth c 2 (lm_I D t0 g ca A s L []) 0 0 (MQ below (va_Qi Q (lm_B D t0 g ca A) A) args s 0 0 A) 0 [(0, .ref (g 0)), (1, .int a1)] []
  refine gx_iload_n C dX2_knownRing_0 rfl 1 rfl ?_
  refine gx_iconst (v := (-1)) C dX2_knownRing_1 (by decide) ?_
  refine gx_icmp_eq (tgt := 13) C dX2_knownRing_2 (by decide) (fun z => ?_) (fun z => ?_)
  · replace h := h.1 z
    refine gx_sub [] rfl ?_
    exact lb_X2_knownRing_13 C hK hG hA h
  · replace h := h.2 z
    refine gx_aload_n C dX2_knownRing_5 rfl 0 rfl ?_
    refine gx_iload_n C dX2_knownRing_6 rfl 1 rfl ?_
    refine lm_callq (rest := []) C hK hG hA (fun Z sz => lk_X2_known h) (cwV 1 C.t (lw_V q1479 q1316 q1317 q120 q1318) rfl rfl rfl ⟨rfl, dmX2_known⟩ ⟨Nat.le_of_ble_eq_true rfl, Nat.le_of_ble_eq_true rfl⟩) rfl rfl (Nat.le_of_ble_eq_true rfl) ⟨Nat.zero_le _, Nat.zero_le _⟩ dX2_knownRing_7 (fun r7 L7 h => ?_)
    refine gx_ifnonnull_q (tgt := 17) C dX2_knownRing_10 (by decide) (fun o10 z => ?_) (fun z => ?_)
    · replace h := h.2 o10 z
      have hh := h; subst z; have h := hh; clear hh
      refine gx_iload_n C dX2_knownRing_17 rfl 1 rfl ?_
      refine gx_sub [] rfl ?_
      exact lb_X2_knownRing_18 C hK hG hA h
    · replace h := h.1 z
      refine gx_sub [] rfl ?_
      exact lb_X2_knownRing_13 C hK hG hA h
/-! Land.mother(LOwlYears$Owl;)I -/
abbrev rmX2_mother : Room := { frames := 5, cells := 0, slots := 0, locals := 108 }
theorem dmX2_mother : yX2_mother.cls ≠ "java/lang/invoke/MethodHandle" ∧ yX2_mother.cls ≠ "java/lang/invoke/VarHandle" ∧ (parseMethodDescriptor yX2_mother.desc).map (fun d => d.parameters.length) = some 1 := by decide +kernel
def lw_X2_mother (L : LSt) (a1 : Nat) (Q : Int32 → LSt → Prop) : Prop :=
  (a1 ∈ ls_ow L ∧ lw_X2_knownRing L (ls_of L 2 a1) (fun r5 L5 => Q r5 L5))
theorem lk_X2_mother {l : Launch} {D : va_G} {t0 : Nat} {g : Nat → Nat} {ca : Nat → ClassId} {Z : va_W} {sz : Nat} {L : LSt} {a1 : Nat} {Q : Int32 → LSt → Prop} (h : lw_X2_mother L a1 Q) : lm_Met l yX2_mother cX2_mother 2 (some .int) rmX2_mother [.ref a1] D t0 g ca Z sz L (va_Qi Q (lm_B D t0 g ca (va_A (lm_ws g ca L Z) sz)) (va_A (lm_ws g ca L Z) sz)) 0 0 := by
  refine lm_entry (by decide) (Nat.le_of_ble_eq_true rfl) (fun p e s m args below meth c A eA hA hG C hK => ?_)
  rw [eA]
  unfold lw_X2_mother at h
  show gx_W p l e (headSpec (ws_ yX2_mother cX2_mother 2 (some .int)) rmX2_mother).room s m args below meth c 2 (lm_I D t0 g ca A s L []) 0 0 (MQ below (va_Qi Q (lm_B D t0 g ca A) A) args s 0 0 A) 0 [(0, .ref (g 0)), (1, .ref a1)] []
  refine gx_aload_n C dX2_mother_0 rfl 0 rfl ?_
  refine gx_aload_n C dX2_mother_1 rfl 1 rfl ?_
  obtain ⟨m2, h⟩ := h
  refine gw_getN C hK in_X6 rfl (ll_Ho m2) 2 (by decide) q1231 rfl rfl dX2_mother_2 ?_
  refine lm_calli (rest := []) C hK hG hA (fun Z sz => lk_X2_knownRing h) (cwV 1 C.t (lw_V q1768 q1770 qs34 q120 q1771) rfl rfl rfl ⟨rfl, dmX2_knownRing⟩ ⟨Nat.le_of_ble_eq_true rfl, Nat.le_of_ble_eq_true rfl⟩) rfl rfl (Nat.le_of_ble_eq_true rfl) ⟨Nat.zero_le _, Nat.zero_le _⟩ dX2_mother_5 (fun r5 L5 h => ?_)
  exact lm_iret C h (Nat.le_refl _) (Nat.le_refl _) dX2_mother_8
/-! Land.father(LOwlYears$Owl;)I -/
abbrev rmX2_father : Room := { frames := 5, cells := 0, slots := 0, locals := 108 }
theorem dmX2_father : yX2_father.cls ≠ "java/lang/invoke/MethodHandle" ∧ yX2_father.cls ≠ "java/lang/invoke/VarHandle" ∧ (parseMethodDescriptor yX2_father.desc).map (fun d => d.parameters.length) = some 1 := by decide +kernel
def lw_X2_father (L : LSt) (a1 : Nat) (Q : Int32 → LSt → Prop) : Prop :=
  (a1 ∈ ls_ow L ∧ lw_X2_knownRing L (ls_of L 3 a1) (fun r5 L5 => Q r5 L5))
theorem lk_X2_father {l : Launch} {D : va_G} {t0 : Nat} {g : Nat → Nat} {ca : Nat → ClassId} {Z : va_W} {sz : Nat} {L : LSt} {a1 : Nat} {Q : Int32 → LSt → Prop} (h : lw_X2_father L a1 Q) : lm_Met l yX2_father cX2_father 2 (some .int) rmX2_father [.ref a1] D t0 g ca Z sz L (va_Qi Q (lm_B D t0 g ca (va_A (lm_ws g ca L Z) sz)) (va_A (lm_ws g ca L Z) sz)) 0 0 := by
  refine lm_entry (by decide) (Nat.le_of_ble_eq_true rfl) (fun p e s m args below meth c A eA hA hG C hK => ?_)
  rw [eA]
  unfold lw_X2_father at h
  show gx_W p l e (headSpec (ws_ yX2_father cX2_father 2 (some .int)) rmX2_father).room s m args below meth c 2 (lm_I D t0 g ca A s L []) 0 0 (MQ below (va_Qi Q (lm_B D t0 g ca A) A) args s 0 0 A) 0 [(0, .ref (g 0)), (1, .ref a1)] []
  refine gx_aload_n C dX2_father_0 rfl 0 rfl ?_
  refine gx_aload_n C dX2_father_1 rfl 1 rfl ?_
  obtain ⟨m2, h⟩ := h
  refine gw_getN C hK in_X6 rfl (ll_Ho m2) 3 (by decide) q1233 rfl rfl dX2_father_2 ?_
  refine lm_calli (rest := []) C hK hG hA (fun Z sz => lk_X2_knownRing h) (cwV 1 C.t (lw_V q1768 q1770 qs34 q120 q1771) rfl rfl rfl ⟨rfl, dmX2_knownRing⟩ ⟨Nat.le_of_ble_eq_true rfl, Nat.le_of_ble_eq_true rfl⟩) rfl rfl (Nat.le_of_ble_eq_true rfl) ⟨Nat.zero_le _, Nat.zero_le _⟩ dX2_father_5 (fun r5 L5 h => ?_)
  exact lm_iret C h (Nat.le_refl _) (Nat.le_refl _) dX2_father_8
/-! Land.phase()I -/
abbrev rmX2_phase : Room := { frames := 0, cells := 0, slots := 0, locals := 0 }
theorem dmX2_phase : yX2_phase.cls ≠ "java/lang/invoke/MethodHandle" ∧ yX2_phase.cls ≠ "java/lang/invoke/VarHandle" ∧ (parseMethodDescriptor yX2_phase.desc).map (fun d => d.parameters.length) = some 0 := by decide +kernel
def lw_X2_phase (L : LSt) (Q : Int32 → LSt → Prop) : Prop :=
  Q ((L.1 9) - (L.1 9) / 4 * 4) L
theorem lk_X2_phase {l : Launch} {D : va_G} {t0 : Nat} {g : Nat → Nat} {ca : Nat → ClassId} {Z : va_W} {sz : Nat} {L : LSt} {Q : Int32 → LSt → Prop} (h : lw_X2_phase L Q) : lm_Met l yX2_phase cX2_phase 1 (some .int) rmX2_phase [] D t0 g ca Z sz L (va_Qi Q (lm_B D t0 g ca (va_A (lm_ws g ca L Z) sz)) (va_A (lm_ws g ca L Z) sz)) 0 0 := by
  refine lm_entry (by decide) (Nat.le_of_ble_eq_true rfl) (fun p e s m args below meth c A eA hA hG C hK => ?_)
  rw [eA]
  unfold lw_X2_phase at h
  show gx_W p l e (headSpec (ws_ yX2_phase cX2_phase 1 (some .int)) rmX2_phase).room s m args below meth c 1 (lm_I D t0 g ca A s L []) 0 0 (MQ below (va_Qi Q (lm_B D t0 g ca A) A) args s 0 0 A) 0 [(0, .ref (g 0))] []
  refine gx_aload_n C dX2_phase_0 rfl 0 rfl ?_
  refine gw_get C hK in_X2 rfl ll_H0 9 (by decide) q248 rfl rfl dX2_phase_1 ?_
  refine gx_iconst (v := 4) C dX2_phase_4 (by decide) ?_
  refine gx_irem C dX2_phase_5 (by decide) ?_
  exact lm_iret C h (Nat.le_refl _) (Nat.le_refl _) dX2_phase_6
/-! Land.volesNext(I)I -/
abbrev rmX2_volesNext : Room := { frames := 1, cells := 0, slots := 0, locals := 21 }
theorem dmX2_volesNext : yX2_volesNext.cls ≠ "java/lang/invoke/MethodHandle" ∧ yX2_volesNext.cls ≠ "java/lang/invoke/VarHandle" ∧ (parseMethodDescriptor yX2_volesNext.desc).map (fun d => d.parameters.length) = some 1 := by decide +kernel
def lj_X2_volesNext_133 (L : LSt) (s0 : Int32) (Q : Int32 → LSt → Prop) : Prop :=
  Q (if 90 < (s0 + 2) then 90 else (s0 + 2)) L
theorem lb_X2_volesNext_133 {l : Launch} {p : Program} {e : Env} {s : State} {m : MethodId} {args : Array Value} {below : List Frame} {meth : Method} {c : Code} {D : va_G} {t0 : Nat} {g : Nat → Nat} {ca : Nat → ClassId} {A : Nat → Prop} (C : gx_C p s m args meth c cX2_volesNext 6 (some .int) RX2) (hK : gK D ca s) (hG : gZ t0 A s) (hA : ∀ q, s.heap.size ≤ q → A q) {L : LSt} {s0 : Int32} {Q : Int32 → LSt → Prop} (h : lj_X2_volesNext_133 L s0 Q)  : gx_W p l e (headSpec (ws_ yX2_volesNext cX2_volesNext 6 (some .int)) rmX2_volesNext).room s m args below meth c 6 (lm_I D t0 g ca A s L []) 0 0 (MQ below (va_Qi Q (lm_B D t0 g ca A) A) args s 0 0 A) 133 [] [.int s0] := by
  unfold lj_X2_volesNext_133 at h
  refine gx_istore (lv' := [(5, .int s0)]) C dX2_volesNext_133 (by decide) rfl ?_
  refine gx_iload C dX2_volesNext_135 0 rfl ?_
  refine gx_iconst (v := 2) C dX2_volesNext_137 (by decide) ?_
  refine gx_iadd C dX2_volesNext_138 ?_
  refine gx_bipush (v := 90) C dX2_volesNext_139 (by decide) ?_
  refine gx_mmin (rest := []) C q1466 q470 q140 q471 (Nat.le_of_ble_eq_true rfl) (Nat.le_of_ble_eq_true rfl) ⟨Nat.zero_le _, Nat.zero_le _⟩ dX2_volesNext_141 ?_
  exact lm_iret C h (Nat.le_refl _) (Nat.le_refl _) dX2_volesNext_144
def lj_X2_volesNext_83 (L : LSt) (s0 : Int32) (Q : Int32 → LSt → Prop) : Prop :=
  Q (if 160 < (s0 + 2) then 160 else (s0 + 2)) L
theorem lb_X2_volesNext_83 {l : Launch} {p : Program} {e : Env} {s : State} {m : MethodId} {args : Array Value} {below : List Frame} {meth : Method} {c : Code} {D : va_G} {t0 : Nat} {g : Nat → Nat} {ca : Nat → ClassId} {A : Nat → Prop} (C : gx_C p s m args meth c cX2_volesNext 6 (some .int) RX2) (hK : gK D ca s) (hG : gZ t0 A s) (hA : ∀ q, s.heap.size ≤ q → A q) {L : LSt} {s0 : Int32} {Q : Int32 → LSt → Prop} (h : lj_X2_volesNext_83 L s0 Q)  : gx_W p l e (headSpec (ws_ yX2_volesNext cX2_volesNext 6 (some .int)) rmX2_volesNext).room s m args below meth c 6 (lm_I D t0 g ca A s L []) 0 0 (MQ below (va_Qi Q (lm_B D t0 g ca A) A) args s 0 0 A) 83 [] [.int s0] := by
  unfold lj_X2_volesNext_83 at h
  refine gx_istore (lv' := [(4, .int s0)]) C dX2_volesNext_83 (by decide) rfl ?_
  refine gx_iload C dX2_volesNext_85 0 rfl ?_
  refine gx_iconst (v := 2) C dX2_volesNext_87 (by decide) ?_
  refine gx_iadd C dX2_volesNext_88 ?_
  refine gx_sipush (v := 160) C dX2_volesNext_89 (by decide) ?_
  refine gx_mmin (rest := []) C q1466 q470 q140 q471 (Nat.le_of_ble_eq_true rfl) (Nat.le_of_ble_eq_true rfl) ⟨Nat.zero_le _, Nat.zero_le _⟩ dX2_volesNext_92 ?_
  exact lm_iret C h (Nat.le_refl _) (Nat.le_refl _) dX2_volesNext_95
def lw_X2_volesNext (L : LSt) (a1 : Int32) (Q : Int32 → LSt → Prop) : Prop :=
  (vp_in a1 64 ∧ lw_X2_phase L (fun r8 L8 => (vp_in a1 64 ∧ (((ls_r L8 0 a1) = 0 → ((r8 = 0 → lj_X2_volesNext_83 L8 ((ls_r L 1 a1) + ((ls_r L 1 a1) / 4)) Q) ∧ (¬ (r8 = 0) → ((r8 = 1 → lj_X2_volesNext_83 L8 (2 * (ls_r L 1 a1)) Q) ∧ (¬ (r8 = 1) → ((r8 = 2 → lj_X2_volesNext_83 L8 ((ls_r L 1 a1) + ((ls_r L 1 a1) / 2)) Q) ∧ (¬ (r8 = 2) → lj_X2_volesNext_83 L8 ((ls_r L 1 a1) / 4) Q))))))) ∧ (¬ (ls_r L8 0 a1) = 0 → (((ls_r L8 0 a1) = 1 → Q (if 40 < (((ls_r L 1 a1) + 20) / 2) then 40 else (((ls_r L 1 a1) + 20) / 2)) L8) ∧ (¬ (ls_r L8 0 a1) = 1 → (((ls_r L8 0 a1) = 2 → ((r8 = 0 → lj_X2_volesNext_133 L8 (ls_r L 1 a1) Q) ∧ (¬ (r8 = 0) → ((r8 = 1 → lj_X2_volesNext_133 L8 ((ls_r L 1 a1) + ((ls_r L 1 a1) / 2)) Q) ∧ (¬ (r8 = 1) → ((r8 = 2 → lj_X2_volesNext_133 L8 ((ls_r L 1 a1) + ((ls_r L 1 a1) / 4)) Q) ∧ (¬ (r8 = 2) → lj_X2_volesNext_133 L8 ((ls_r L 1 a1) / 2) Q))))))) ∧ (¬ (ls_r L8 0 a1) = 2 → Q 0 L8)))))))))
theorem lk_X2_volesNext {l : Launch} {D : va_G} {t0 : Nat} {g : Nat → Nat} {ca : Nat → ClassId} {Z : va_W} {sz : Nat} {L : LSt} {a1 : Int32} {Q : Int32 → LSt → Prop} (h : lw_X2_volesNext L a1 Q) : lm_Met l yX2_volesNext cX2_volesNext 6 (some .int) rmX2_volesNext [.int a1] D t0 g ca Z sz L (va_Qi Q (lm_B D t0 g ca (va_A (lm_ws g ca L Z) sz)) (va_A (lm_ws g ca L Z) sz)) 0 0 := by
  refine lm_entry (by decide) (Nat.le_of_ble_eq_true rfl) (fun p e s m args below meth c A eA hA hG C hK => ?_)
  rw [eA]
  unfold lw_X2_volesNext at h
  show gx_W p l e (headSpec (ws_ yX2_volesNext cX2_volesNext 6 (some .int)) rmX2_volesNext).room s m args below meth c 6 (lm_I D t0 g ca A s L []) 0 0 (MQ below (va_Qi Q (lm_B D t0 g ca A) A) args s 0 0 A) 0 [(0, .ref (g 0)), (1, .int a1)] []
  refine gx_aload_n C dX2_volesNext_0 rfl 0 rfl ?_
  refine gw_get C hK in_X2 rfl ll_H0 1 (by decide) q234 rfl rfl dX2_volesNext_1 ?_
  refine gx_iload_n C dX2_volesNext_4 rfl 1 rfl ?_
  obtain ⟨g5, h⟩ := h
  refine gw_iald C hK ll_Ha1 g5 dX2_volesNext_5 ?_
  refine gx_istore_n (lv' := [(2, .int (ls_r L 1 a1)), (0, .ref (g 0)), (1, .int a1)]) C dX2_volesNext_6 rfl (by decide) rfl ?_
  refine gx_aload_n C dX2_volesNext_7 rfl 1 rfl ?_
  refine lm_calli (rest := []) C hK hG hA (fun Z sz => lk_X2_phase h) (cwV 0 C.t (lw_V q1465 q1267 q1268 q120 q1269) rfl rfl rfl ⟨rfl, dmX2_phase⟩ ⟨Nat.le_of_ble_eq_true rfl, Nat.le_of_ble_eq_true rfl⟩) rfl rfl (Nat.le_of_ble_eq_true rfl) ⟨Nat.zero_le _, Nat.zero_le _⟩ dX2_volesNext_8 (fun r8 L8 h => ?_)
  refine gx_istore_n (lv' := [(3, .int r8), (2, .int (ls_r L 1 a1)), (0, .ref (g 0)), (1, .int a1)]) C dX2_volesNext_11 rfl (by decide) rfl ?_
  refine gx_aload_n C dX2_volesNext_12 rfl 2 rfl ?_
  refine gw_get C hK in_X2 rfl ll_H0 0 (by decide) q232 rfl rfl dX2_volesNext_13 ?_
  refine gx_iload_n C dX2_volesNext_16 rfl 3 rfl ?_
  obtain ⟨g17, h⟩ := h
  refine gw_iald C hK ll_Ha0 g17 dX2_volesNext_17 ?_
  by_cases z0 : (ls_r L8 0 a1) = 0
  · replace h := h.1 z0; refine gx_tableAt (off := 26) (tgt := 44) C z0 dX2_volesNext_18 (by decide) (by decide) (by decide) (by decide) ?_
    refine gx_iload_n C dX2_volesNext_44 rfl 0 rfl ?_
    refine gx_if_ne (tgt := 56) C dX2_volesNext_45 (by decide) (fun z => ?_) (fun z => ?_)
    · replace h := h.2 z
      refine gx_iload_n C dX2_volesNext_56 rfl 0 rfl ?_
      refine gx_iconst (v := 1) C dX2_volesNext_57 (by decide) ?_
      refine gx_icmp_ne (tgt := 67) C dX2_volesNext_58 (by decide) (fun z => ?_) (fun z => ?_)
      · replace h := h.2 z
        refine gx_iload_n C dX2_volesNext_67 rfl 0 rfl ?_
        refine gx_iconst (v := 2) C dX2_volesNext_68 (by decide) ?_
        refine gx_icmp_ne (tgt := 80) C dX2_volesNext_69 (by decide) (fun z => ?_) (fun z => ?_)
        · replace h := h.2 z
          refine gx_iload_n C dX2_volesNext_80 rfl 1 rfl ?_
          refine gx_iconst (v := 4) C dX2_volesNext_81 (by decide) ?_
          refine gx_idiv C dX2_volesNext_82 (by decide) ?_
          refine gx_sub [] rfl ?_
          exact lb_X2_volesNext_83 C hK hG hA h
        · replace h := h.1 z
          refine gx_iload_n C dX2_volesNext_72 rfl 1 rfl ?_
          refine gx_iload_n C dX2_volesNext_73 rfl 1 rfl ?_
          refine gx_iconst (v := 2) C dX2_volesNext_74 (by decide) ?_
          refine gx_idiv C dX2_volesNext_75 (by decide) ?_
          refine gx_iadd C dX2_volesNext_76 ?_
          refine gx_goto (tgt := 83) C dX2_volesNext_77 (by decide) ?_
          refine gx_sub [] rfl ?_
          exact lb_X2_volesNext_83 C hK hG hA h
      · replace h := h.1 z
        refine gx_iconst (v := 2) C dX2_volesNext_61 (by decide) ?_
        refine gx_iload_n C dX2_volesNext_62 rfl 1 rfl ?_
        refine gx_imul C dX2_volesNext_63 ?_
        refine gx_goto (tgt := 83) C dX2_volesNext_64 (by decide) ?_
        refine gx_sub [] rfl ?_
        exact lb_X2_volesNext_83 C hK hG hA h
    · replace h := h.1 z
      refine gx_iload_n C dX2_volesNext_48 rfl 1 rfl ?_
      refine gx_iload_n C dX2_volesNext_49 rfl 1 rfl ?_
      refine gx_iconst (v := 4) C dX2_volesNext_50 (by decide) ?_
      refine gx_idiv C dX2_volesNext_51 (by decide) ?_
      refine gx_iadd C dX2_volesNext_52 ?_
      refine gx_goto (tgt := 83) C dX2_volesNext_53 (by decide) ?_
      refine gx_sub [] rfl ?_
      exact lb_X2_volesNext_83 C hK hG hA h
  replace h := h.2 z0
  by_cases z1 : (ls_r L8 0 a1) = 1
  · replace h := h.1 z1; refine gx_tableAt (off := 127) (tgt := 145) C z1 dX2_volesNext_18 (by decide) (by decide) (by decide) (by decide) ?_
    refine gx_iload_n C dX2_volesNext_145 rfl 1 rfl ?_
    refine gx_bipush (v := 20) C dX2_volesNext_146 (by decide) ?_
    refine gx_iadd C dX2_volesNext_148 ?_
    refine gx_iconst (v := 2) C dX2_volesNext_149 (by decide) ?_
    refine gx_idiv C dX2_volesNext_150 (by decide) ?_
    refine gx_bipush (v := 40) C dX2_volesNext_151 (by decide) ?_
    refine gx_mmin (rest := []) C q1466 q470 q140 q471 (Nat.le_of_ble_eq_true rfl) (Nat.le_of_ble_eq_true rfl) ⟨Nat.zero_le _, Nat.zero_le _⟩ dX2_volesNext_153 ?_
    exact lm_iret C h (Nat.le_refl _) (Nat.le_refl _) dX2_volesNext_156
  replace h := h.2 z1
  by_cases z2 : (ls_r L8 0 a1) = 2
  · replace h := h.1 z2; refine gx_tableAt (off := 78) (tgt := 96) C z2 dX2_volesNext_18 (by decide) (by decide) (by decide) (by decide) ?_
    refine gx_iload_n C dX2_volesNext_96 rfl 0 rfl ?_
    refine gx_if_ne (tgt := 104) C dX2_volesNext_97 (by decide) (fun z => ?_) (fun z => ?_)
    · replace h := h.2 z
      refine gx_iload_n C dX2_volesNext_104 rfl 0 rfl ?_
      refine gx_iconst (v := 1) C dX2_volesNext_105 (by decide) ?_
      refine gx_icmp_ne (tgt := 117) C dX2_volesNext_106 (by decide) (fun z => ?_) (fun z => ?_)
      · replace h := h.2 z
        refine gx_iload_n C dX2_volesNext_117 rfl 0 rfl ?_
        refine gx_iconst (v := 2) C dX2_volesNext_118 (by decide) ?_
        refine gx_icmp_ne (tgt := 130) C dX2_volesNext_119 (by decide) (fun z => ?_) (fun z => ?_)
        · replace h := h.2 z
          refine gx_iload_n C dX2_volesNext_130 rfl 1 rfl ?_
          refine gx_iconst (v := 2) C dX2_volesNext_131 (by decide) ?_
          refine gx_idiv C dX2_volesNext_132 (by decide) ?_
          refine gx_sub [] rfl ?_
          exact lb_X2_volesNext_133 C hK hG hA h
        · replace h := h.1 z
          refine gx_iload_n C dX2_volesNext_122 rfl 1 rfl ?_
          refine gx_iload_n C dX2_volesNext_123 rfl 1 rfl ?_
          refine gx_iconst (v := 4) C dX2_volesNext_124 (by decide) ?_
          refine gx_idiv C dX2_volesNext_125 (by decide) ?_
          refine gx_iadd C dX2_volesNext_126 ?_
          refine gx_goto (tgt := 133) C dX2_volesNext_127 (by decide) ?_
          refine gx_sub [] rfl ?_
          exact lb_X2_volesNext_133 C hK hG hA h
      · replace h := h.1 z
        refine gx_iload_n C dX2_volesNext_109 rfl 1 rfl ?_
        refine gx_iload_n C dX2_volesNext_110 rfl 1 rfl ?_
        refine gx_iconst (v := 2) C dX2_volesNext_111 (by decide) ?_
        refine gx_idiv C dX2_volesNext_112 (by decide) ?_
        refine gx_iadd C dX2_volesNext_113 ?_
        refine gx_goto (tgt := 133) C dX2_volesNext_114 (by decide) ?_
        refine gx_sub [] rfl ?_
        exact lb_X2_volesNext_133 C hK hG hA h
    · replace h := h.1 z
      refine gx_iload_n C dX2_volesNext_100 rfl 1 rfl ?_
      refine gx_goto (tgt := 133) C dX2_volesNext_101 (by decide) ?_
      refine gx_sub [] rfl ?_
      exact lb_X2_volesNext_133 C hK hG hA h
  replace h := h.2 z2
  refine gx_tableOut (tgt := 157) C dX2_volesNext_18 (sw_out 0 3 (by decide) (fun k hk => by match k, hk with | 0, _ => exact z0 | 1, _ => exact z1 | 2, _ => exact z2 | k + 3, hk => omega)) (by decide) ?_
  refine gx_iconst (v := 0) C dX2_volesNext_157 (by decide) ?_
  exact lm_iret C h (Nat.le_refl _) (Nat.le_refl _) dX2_volesNext_158
/-! Land.growVoles()V -/
abbrev rmX2_growVoles : Room := { frames := 2, cells := 0, slots := 0, locals := 46 }
theorem dmX2_growVoles : yX2_growVoles.cls ≠ "java/lang/invoke/MethodHandle" ∧ yX2_growVoles.cls ≠ "java/lang/invoke/VarHandle" ∧ (parseMethodDescriptor yX2_growVoles.desc).map (fun d => d.parameters.length) = some 0 := by decide +kernel
def lj_X2_growVoles_2 (L : LSt) (a1 : Int32) (k2 : LSt → Int32 → Prop) (Q : LSt → Prop) : Prop :=
  ((64 ≤ a1 → Q L) ∧ (¬ (64 ≤ a1) → lw_X2_volesNext L a1 (fun r15 L15 => (vp_in a1 64 ∧ (∀ L18 : LSt, L18 = ls_a L15 1 a1 r15 → k2 L18 (a1 + 1))))))
theorem lb_X2_growVoles_2 {l : Launch} {p : Program} {e : Env} {s : State} {m : MethodId} {args : Array Value} {below : List Frame} {meth : Method} {c : Code} {D : va_G} {t0 : Nat} {g : Nat → Nat} {ca : Nat → ClassId} {A : Nat → Prop} (C : gx_C p s m args meth c cX2_growVoles 2 none RX2) (hK : gK D ca s) (hG : gZ t0 A s) (hA : ∀ q, s.heap.size ≤ q → A q) {L : LSt} {a1 : Int32} {k2 : LSt → Int32 → Prop} {Q : LSt → Prop} (h : lj_X2_growVoles_2 L a1 k2 Q) (hk2 : ∀ (L : LSt) (a1 : Int32), k2 L a1 → gx_W p l e (headSpec (ws_ yX2_growVoles cX2_growVoles 2 none) rmX2_growVoles).room s m args below meth c 2 (lm_I D t0 g ca A s L []) 0 0 (MQ below (va_Qv Q (lm_B D t0 g ca A) A) args s 0 0 A) 2 [(0, .ref (g 0)), (1, .int a1)] []) : gx_W p l e (headSpec (ws_ yX2_growVoles cX2_growVoles 2 none) rmX2_growVoles).room s m args below meth c 2 (lm_I D t0 g ca A s L []) 0 0 (MQ below (va_Qv Q (lm_B D t0 g ca A) A) args s 0 0 A) 2 [(0, .ref (g 0)), (1, .int a1)] [] := by
  unfold lj_X2_growVoles_2 at h
  refine gx_iload_n C dX2_growVoles_2 rfl 1 rfl ?_
  refine gx_bipush (v := 64) C dX2_growVoles_3 (by decide) ?_
  refine gx_icmp_ge (tgt := 25) C dX2_growVoles_5 (by decide) (fun z => ?_) (fun z => ?_)
  · replace h := h.1 z
    exact lm_vret C h (Nat.le_refl _) (Nat.le_refl _) dX2_growVoles_25
  · replace h := h.2 z
    refine gx_aload_n C dX2_growVoles_8 rfl 0 rfl ?_
    refine gw_get C hK in_X2 rfl ll_H0 1 (by decide) q234 rfl rfl dX2_growVoles_9 ?_
    refine gx_iload_n C dX2_growVoles_12 rfl 1 rfl ?_
    refine gx_aload_n C dX2_growVoles_13 rfl 0 rfl ?_
    refine gx_iload_n C dX2_growVoles_14 rfl 1 rfl ?_
    refine lm_calli (rest := [.int a1, .ref (g 2)]) C hK hG hA (fun Z sz => lk_X2_volesNext h) (cwV 1 C.t (lw_V q1461 q1462 q1463 q120 q1464) rfl rfl rfl ⟨rfl, dmX2_volesNext⟩ ⟨Nat.le_of_ble_eq_true rfl, Nat.le_of_ble_eq_true rfl⟩) rfl rfl (Nat.le_of_ble_eq_true rfl) ⟨Nat.zero_le _, Nat.zero_le _⟩ dX2_growVoles_15 (fun r15 L15 h => ?_)
    obtain ⟨g18, h⟩ := h
    refine gw_iast C hK (ll_Ua1 _ _) g18 dX2_growVoles_18 ?_
    refine lm_name (fun L18 e_L18 => ?_)
    replace h := h L18 e_L18
    refine gx_iinc (v := a1 + 1) (k := 1) (lv' := [(1, .int (a1 + 1)), (0, .ref (g 0))]) C dX2_growVoles_19 rfl rfl (by decide) rfl ?_
    refine gx_goto (tgt := 2) C dX2_growVoles_22 (by decide) ?_
    refine gx_sub [1, 0] rfl ?_
    exact hk2 L18 (a1 + 1) h
def ll_X2_growVoles_2 (Q : LSt → Prop) : Nat → LSt → Int32 → Prop
  | 0, _, _ => False
  | n + 1, L, a1 => lj_X2_growVoles_2 L a1 (fun L a1 => ll_X2_growVoles_2 Q n L a1) Q
theorem le_X2_growVoles_2 {l : Launch} {p : Program} {e : Env} {s : State} {m : MethodId} {args : Array Value} {below : List Frame} {meth : Method} {c : Code} {D : va_G} {t0 : Nat} {g : Nat → Nat} {ca : Nat → ClassId} {A : Nat → Prop} (C : gx_C p s m args meth c cX2_growVoles 2 none RX2) (hK : gK D ca s) (hG : gZ t0 A s) (hA : ∀ q, s.heap.size ≤ q → A q) {Q : LSt → Prop}  (n : Nat) : ∀ (L : LSt) (a1 : Int32), ll_X2_growVoles_2 Q n L a1 → gx_W p l e (headSpec (ws_ yX2_growVoles cX2_growVoles 2 none) rmX2_growVoles).room s m args below meth c 2 (lm_I D t0 g ca A s L []) 0 0 (MQ below (va_Qv Q (lm_B D t0 g ca A) A) args s 0 0 A) 2 [(0, .ref (g 0)), (1, .int a1)] [] := by
  induction n with
  | zero => intro L a1 h; exact False.elim h
  | succ n ih => intro L a1 h; exact lb_X2_growVoles_2 C hK hG hA (show lj_X2_growVoles_2 L a1 (fun L a1 => ll_X2_growVoles_2 Q n L a1) Q from h) (fun L a1 h => ih L a1 h)
def lw_X2_growVoles (L : LSt) (Q : LSt → Prop) : Prop :=
  ∃ n : Nat, ll_X2_growVoles_2 Q n L 0
theorem lk_X2_growVoles {l : Launch} {D : va_G} {t0 : Nat} {g : Nat → Nat} {ca : Nat → ClassId} {Z : va_W} {sz : Nat} {L : LSt} {Q : LSt → Prop} (h : lw_X2_growVoles L Q) : lm_Met l yX2_growVoles cX2_growVoles 2 none rmX2_growVoles [] D t0 g ca Z sz L (va_Qv Q (lm_B D t0 g ca (va_A (lm_ws g ca L Z) sz)) (va_A (lm_ws g ca L Z) sz)) 0 0 := by
  refine lm_entry (by decide) (Nat.le_of_ble_eq_true rfl) (fun p e s m args below meth c A eA hA hG C hK => ?_)
  rw [eA]
  unfold lw_X2_growVoles at h
  show gx_W p l e (headSpec (ws_ yX2_growVoles cX2_growVoles 2 none) rmX2_growVoles).room s m args below meth c 2 (lm_I D t0 g ca A s L []) 0 0 (MQ below (va_Qv Q (lm_B D t0 g ca A) A) args s 0 0 A) 0 [(0, .ref (g 0))] []
  refine gx_iconst (v := 0) C dX2_growVoles_0 (by decide) ?_
  refine gx_istore_n (lv' := [(1, .int 0), (0, .ref (g 0))]) C dX2_growVoles_1 rfl (by decide) rfl ?_
  refine gx_sub [1, 0] rfl ?_
  obtain ⟨n, h⟩ := h
  exact le_X2_growVoles_2 C hK hG hA n L 0 h
/-! Land.younger(LOwlYears$Box;)LOwlYears$Owl; -/
abbrev rmX2_younger : Room := { frames := 4, cells := 0, slots := 0, locals := 87 }
theorem dmX2_younger : yX2_younger.cls ≠ "java/lang/invoke/MethodHandle" ∧ yX2_younger.cls ≠ "java/lang/invoke/VarHandle" ∧ (parseMethodDescriptor yX2_younger.desc).map (fun d => d.parameters.length) = some 1 := by decide +kernel
def lj_X2_younger_72 (L : LSt) (s0 : Option Nat) (Q : Option Nat → LSt → Prop) : Prop :=
  Q s0 L
theorem lb_X2_younger_72 {l : Launch} {p : Program} {e : Env} {s : State} {m : MethodId} {args : Array Value} {below : List Frame} {meth : Method} {c : Code} {D : va_G} {t0 : Nat} {g : Nat → Nat} {ca : Nat → ClassId} {A : Nat → Prop} (C : gx_C p s m args meth c cX2_younger 5 (some (.object "OwlYears$Owl")) RX2) (hK : gK D ca s) (hG : gZ t0 A s) (hA : ∀ q, s.heap.size ≤ q → A q) {L : LSt} {s0 : Option Nat} {Q : Option Nat → LSt → Prop} (h : lj_X2_younger_72 L s0 Q)  : gx_W p l e (headSpec (ws_ yX2_younger cX2_younger 5 (some (.object "OwlYears$Owl"))) rmX2_younger).room s m args below meth c 5 (lm_I D t0 g ca A s L []) 0 0 (MQ below (va_Qq Q (lm_B D t0 g ca A) A) args s 0 0 A) 72 [] [va_rf s0] := by
  unfold lj_X2_younger_72 at h
  exact lm_qret (r := s0) (Or.inl ⟨_, rfl⟩) C h (Nat.le_refl _) (Nat.le_refl _) dX2_younger_72
def lj_X2_younger_60 (L : LSt) (a2 : Option Nat) (a3 : Option Nat) (s0 : Int32) (Q : Option Nat → LSt → Prop) : Prop :=
  ((s0 = 0 → lj_X2_younger_72 L a3 Q) ∧ (¬ (s0 = 0) → lj_X2_younger_72 L a2 Q))
theorem lb_X2_younger_60 {l : Launch} {p : Program} {e : Env} {s : State} {m : MethodId} {args : Array Value} {below : List Frame} {meth : Method} {c : Code} {D : va_G} {t0 : Nat} {g : Nat → Nat} {ca : Nat → ClassId} {A : Nat → Prop} (C : gx_C p s m args meth c cX2_younger 5 (some (.object "OwlYears$Owl")) RX2) (hK : gK D ca s) (hG : gZ t0 A s) (hA : ∀ q, s.heap.size ≤ q → A q) {L : LSt} {a2 : Option Nat} {a3 : Option Nat} {s0 : Int32} {Q : Option Nat → LSt → Prop} (h : lj_X2_younger_60 L a2 a3 s0 Q)  : gx_W p l e (headSpec (ws_ yX2_younger cX2_younger 5 (some (.object "OwlYears$Owl"))) rmX2_younger).room s m args below meth c 5 (lm_I D t0 g ca A s L []) 0 0 (MQ below (va_Qq Q (lm_B D t0 g ca A) A) args s 0 0 A) 60 [(2, va_rf a2), (3, va_rf a3)] [.int s0] := by
  unfold lj_X2_younger_60 at h
  refine gx_istore (lv' := [(4, .int s0), (2, va_rf a2), (3, va_rf a3)]) C dX2_younger_60 (by decide) (by simp only [List.filter_cons, List.filter_nil, va_rf_cat]; rfl) ?_
  refine gx_iload C dX2_younger_62 0 rfl ?_
  refine gx_if_eq (tgt := 71) C dX2_younger_64 (by decide) (fun z => ?_) (fun z => ?_)
  · replace h := h.1 z
    refine gx_aload_nq C dX2_younger_71 rfl 2 rfl ?_
    refine gx_sub [] rfl ?_
    exact lb_X2_younger_72 (s0 := a3) C hK hG hA h
  · replace h := h.2 z
    refine gx_aload_nq C dX2_younger_67 rfl 1 rfl ?_
    refine gx_goto (tgt := 72) C dX2_younger_68 (by decide) ?_
    refine gx_sub [] rfl ?_
    exact lb_X2_younger_72 (s0 := a2) C hK hG hA h
def lj_X2_younger_59 (L : LSt) (a2 : Option Nat) (a3 : Option Nat) (Q : Option Nat → LSt → Prop) : Prop :=
  lj_X2_younger_60 L a2 a3 0 Q
theorem lb_X2_younger_59 {l : Launch} {p : Program} {e : Env} {s : State} {m : MethodId} {args : Array Value} {below : List Frame} {meth : Method} {c : Code} {D : va_G} {t0 : Nat} {g : Nat → Nat} {ca : Nat → ClassId} {A : Nat → Prop} (C : gx_C p s m args meth c cX2_younger 5 (some (.object "OwlYears$Owl")) RX2) (hK : gK D ca s) (hG : gZ t0 A s) (hA : ∀ q, s.heap.size ≤ q → A q) {L : LSt} {a2 : Option Nat} {a3 : Option Nat} {Q : Option Nat → LSt → Prop} (h : lj_X2_younger_59 L a2 a3 Q)  : gx_W p l e (headSpec (ws_ yX2_younger cX2_younger 5 (some (.object "OwlYears$Owl"))) rmX2_younger).room s m args below meth c 5 (lm_I D t0 g ca A s L []) 0 0 (MQ below (va_Qq Q (lm_B D t0 g ca A) A) args s 0 0 A) 59 [(2, va_rf a2), (3, va_rf a3)] [] := by
  unfold lj_X2_younger_59 at h
  refine gx_iconst (v := 0) C dX2_younger_59 (by decide) ?_
  exact lb_X2_younger_60 (a2 := a2) (a3 := a3) C hK hG hA h
def lj_X2_younger_55 (L : LSt) (a2 : Option Nat) (a3 : Option Nat) (Q : Option Nat → LSt → Prop) : Prop :=
  lj_X2_younger_60 L a2 a3 1 Q
theorem lb_X2_younger_55 {l : Launch} {p : Program} {e : Env} {s : State} {m : MethodId} {args : Array Value} {below : List Frame} {meth : Method} {c : Code} {D : va_G} {t0 : Nat} {g : Nat → Nat} {ca : Nat → ClassId} {A : Nat → Prop} (C : gx_C p s m args meth c cX2_younger 5 (some (.object "OwlYears$Owl")) RX2) (hK : gK D ca s) (hG : gZ t0 A s) (hA : ∀ q, s.heap.size ≤ q → A q) {L : LSt} {a2 : Option Nat} {a3 : Option Nat} {Q : Option Nat → LSt → Prop} (h : lj_X2_younger_55 L a2 a3 Q)  : gx_W p l e (headSpec (ws_ yX2_younger cX2_younger 5 (some (.object "OwlYears$Owl"))) rmX2_younger).room s m args below meth c 5 (lm_I D t0 g ca A s L []) 0 0 (MQ below (va_Qq Q (lm_B D t0 g ca A) A) args s 0 0 A) 55 [(2, va_rf a2), (3, va_rf a3)] [] := by
  unfold lj_X2_younger_55 at h
  refine gx_iconst (v := 1) C dX2_younger_55 (by decide) ?_
  refine gx_goto (tgt := 60) C dX2_younger_56 (by decide) ?_
  exact lb_X2_younger_60 (a2 := a2) (a3 := a3) C hK hG hA h
def lw_X2_younger (L : LSt) (a1 : Nat) (Q : Option Nat → LSt → Prop) : Prop :=
  (a1 ∈ ls_bx L ∧ (vp_in 0 2 ∧ lw_X2_known L (ls_br L a1 (0 : Int32).toNatClampNeg) (fun r7 L7 => (a1 ∈ ls_bx L7 ∧ (vp_in 1 2 ∧ lw_X2_known L7 (ls_br L7 a1 (1 : Int32).toNatClampNeg) (fun r18 L18 => (∃ o23 : Nat, r7 = some o23 ∧ (o23 ∈ ls_ow L18 ∧ (∃ o27 : Nat, r18 = some o27 ∧ (o27 ∈ ls_ow L18 ∧ (((ls_of L18 4 o23) < (ls_of L18 4 o27) → lj_X2_younger_55 L18 ((some o23)) ((some o27)) Q) ∧ (¬ (ls_of L18 4 o23) < (ls_of L18 4 o27) → (((ls_of L18 4 o23) = (ls_of L18 4 o27) → (((ls_of L18 0 o23) ≤ (ls_of L18 0 o27) → lj_X2_younger_59 L18 ((some o23)) ((some o27)) Q) ∧ (¬ (ls_of L18 0 o23) ≤ (ls_of L18 0 o27) → lj_X2_younger_55 L18 ((some o23)) ((some o27)) Q))) ∧ (¬ (ls_of L18 4 o23) = (ls_of L18 4 o27) → lj_X2_younger_59 L18 ((some o23)) ((some o27)) Q))))))))))))))
theorem lk_X2_younger {l : Launch} {D : va_G} {t0 : Nat} {g : Nat → Nat} {ca : Nat → ClassId} {Z : va_W} {sz : Nat} {L : LSt} {a1 : Nat} {Q : Option Nat → LSt → Prop} (h : lw_X2_younger L a1 Q) : lm_Met l yX2_younger cX2_younger 5 (some (.object "OwlYears$Owl")) rmX2_younger [.ref a1] D t0 g ca Z sz L (va_Qq Q (lm_B D t0 g ca (va_A (lm_ws g ca L Z) sz)) (va_A (lm_ws g ca L Z) sz)) 0 0 := by
  refine lm_entry (by decide) (Nat.le_of_ble_eq_true rfl) (fun p e s m args below meth c A eA hA hG C hK => ?_)
  rw [eA]
  unfold lw_X2_younger at h
  show gx_W p l e (headSpec (ws_ yX2_younger cX2_younger 5 (some (.object "OwlYears$Owl"))) rmX2_younger).room s m args below meth c 5 (lm_I D t0 g ca A s L []) 0 0 (MQ below (va_Qq Q (lm_B D t0 g ca A) A) args s 0 0 A) 0 [(0, .ref (g 0)), (1, .ref a1)] []
  refine gx_aload_n C dX2_younger_0 rfl 0 rfl ?_
  refine gx_aload_n C dX2_younger_1 rfl 1 rfl ?_
  obtain ⟨m2, h⟩ := h
  refine gw_getN C hK in_X5 rfl (ll_Hb m2) 1 (by decide) q393 rfl rfl dX2_younger_2 ?_
  refine gx_iconst (v := 0) C dX2_younger_5 (by decide) ?_
  obtain ⟨g6, h⟩ := h
  refine gw_iald C hK (ll_Hr m2) g6 dX2_younger_6 ?_
  refine lm_callq (rest := []) C hK hG hA (fun Z sz => lk_X2_known h) (cwV 1 C.t (lw_V q1479 q1316 q1317 q120 q1318) rfl rfl rfl ⟨rfl, dmX2_known⟩ ⟨Nat.le_of_ble_eq_true rfl, Nat.le_of_ble_eq_true rfl⟩) rfl rfl (Nat.le_of_ble_eq_true rfl) ⟨Nat.zero_le _, Nat.zero_le _⟩ dX2_younger_7 (fun r7 L7 h => ?_)
  refine gx_astore_nq (lv' := [(2, va_rf r7), (0, .ref (g 0)), (1, .ref a1)]) C dX2_younger_10 rfl (by decide) rfl ?_
  refine gx_aload_n C dX2_younger_11 rfl 1 rfl ?_
  refine gx_aload_n C dX2_younger_12 rfl 2 rfl ?_
  obtain ⟨m13, h⟩ := h
  refine gw_getN C hK in_X5 rfl (ll_Hb m13) 1 (by decide) q393 rfl rfl dX2_younger_13 ?_
  refine gx_iconst (v := 1) C dX2_younger_16 (by decide) ?_
  obtain ⟨g17, h⟩ := h
  refine gw_iald C hK (ll_Hr m13) g17 dX2_younger_17 ?_
  refine lm_callq (rest := []) C hK hG hA (fun Z sz => lk_X2_known h) (cwV 1 C.t (lw_V q1479 q1316 q1317 q120 q1318) rfl rfl rfl ⟨rfl, dmX2_known⟩ ⟨Nat.le_of_ble_eq_true rfl, Nat.le_of_ble_eq_true rfl⟩) rfl rfl (Nat.le_of_ble_eq_true rfl) ⟨Nat.zero_le _, Nat.zero_le _⟩ dX2_younger_18 (fun r18 L18 h => ?_)
  refine gx_astore_nq (lv' := [(3, va_rf r18), (2, va_rf r7), (0, .ref (g 0)), (1, .ref a1)]) C dX2_younger_21 rfl (by decide) (by simp only [List.filter_cons, List.filter_nil, va_rf_cat]; rfl) ?_
  refine gx_aload_nq C dX2_younger_22 rfl 1 rfl ?_
  obtain ⟨o23, e_o23, h⟩ := h
  have hh := h; subst e_o23; have h := hh; clear hh
  obtain ⟨m23, h⟩ := h
  refine gw_getN C hK in_X6 rfl (ll_Ho m23) 4 (by decide) q1235 rfl rfl dX2_younger_23 ?_
  refine gx_aload_nq C dX2_younger_26 rfl 0 rfl ?_
  obtain ⟨o27, e_o27, h⟩ := h
  have hh := h; subst e_o27; have h := hh; clear hh
  obtain ⟨m27, h⟩ := h
  refine gw_getN C hK in_X6 rfl (ll_Ho m27) 4 (by decide) q1235 rfl rfl dX2_younger_27 ?_
  refine gx_icmp_lt (tgt := 55) C dX2_younger_30 (by decide) (fun z => ?_) (fun z => ?_)
  · replace h := h.1 z
    refine gx_sub [1, 0] rfl ?_
    exact lb_X2_younger_55 (a2 := ((some o23))) (a3 := ((some o27))) C hK hG hA h
  · replace h := h.2 z
    refine gx_aload_n C dX2_younger_33 rfl 1 rfl ?_
    refine gw_getN C hK in_X6 rfl (ll_Ho m23) 4 (by decide) q1235 rfl rfl dX2_younger_34 ?_
    refine gx_aload_n C dX2_younger_37 rfl 0 rfl ?_
    refine gw_getN C hK in_X6 rfl (ll_Ho m27) 4 (by decide) q1235 rfl rfl dX2_younger_38 ?_
    refine gx_icmp_ne (tgt := 59) C dX2_younger_41 (by decide) (fun z => ?_) (fun z => ?_)
    · replace h := h.2 z
      refine gx_sub [1, 0] rfl ?_
      exact lb_X2_younger_59 (a2 := ((some o23))) (a3 := ((some o27))) C hK hG hA h
    · replace h := h.1 z
      refine gx_aload_n C dX2_younger_44 rfl 1 rfl ?_
      refine gw_getN C hK in_X6 rfl (ll_Ho m23) 0 (by decide) q1225 rfl rfl dX2_younger_45 ?_
      refine gx_aload_n C dX2_younger_48 rfl 0 rfl ?_
      refine gw_getN C hK in_X6 rfl (ll_Ho m27) 0 (by decide) q1225 rfl rfl dX2_younger_49 ?_
      refine gx_icmp_le (tgt := 59) C dX2_younger_52 (by decide) (fun z => ?_) (fun z => ?_)
      · replace h := h.1 z
        refine gx_sub [1, 0] rfl ?_
        exact lb_X2_younger_59 (a2 := ((some o23))) (a3 := ((some o27))) C hK hG hA h
      · replace h := h.2 z
        refine gx_sub [1, 0] rfl ?_
        exact lb_X2_younger_55 (a2 := ((some o23))) (a3 := ((some o27))) C hK hG hA h
/-! Land.whyNoYoung(LOwlYears$Box;)I -/
abbrev rmX2_whyNoYoung : Room := { frames := 6, cells := 0, slots := 0, locals := 135 }
theorem dmX2_whyNoYoung : yX2_whyNoYoung.cls ≠ "java/lang/invoke/MethodHandle" ∧ yX2_whyNoYoung.cls ≠ "java/lang/invoke/VarHandle" ∧ (parseMethodDescriptor yX2_whyNoYoung.desc).map (fun d => d.parameters.length) = some 1 := by decide +kernel
def lj_X2_whyNoYoung_67 (L : LSt) (Q : Int32 → LSt → Prop) : Prop :=
  Q 3 L
theorem lb_X2_whyNoYoung_67 {l : Launch} {p : Program} {e : Env} {s : State} {m : MethodId} {args : Array Value} {below : List Frame} {meth : Method} {c : Code} {D : va_G} {t0 : Nat} {g : Nat → Nat} {ca : Nat → ClassId} {A : Nat → Prop} (C : gx_C p s m args meth c cX2_whyNoYoung 3 (some .int) RX2) (hK : gK D ca s) (hG : gZ t0 A s) (hA : ∀ q, s.heap.size ≤ q → A q) {L : LSt} {Q : Int32 → LSt → Prop} (h : lj_X2_whyNoYoung_67 L Q)  : gx_W p l e (headSpec (ws_ yX2_whyNoYoung cX2_whyNoYoung 3 (some .int)) rmX2_whyNoYoung).room s m args below meth c 3 (lm_I D t0 g ca A s L []) 0 0 (MQ below (va_Qi Q (lm_B D t0 g ca A) A) args s 0 0 A) 67 [] [] := by
  unfold lj_X2_whyNoYoung_67 at h
  refine gx_iconst (v := 3) C dX2_whyNoYoung_67 (by decide) ?_
  exact lm_iret C h (Nat.le_refl _) (Nat.le_refl _) dX2_whyNoYoung_68
def lj_X2_whyNoYoung_2 (L : LSt) (a1 : Nat) (a2 : Int32) (k2 : LSt → Nat → Int32 → Prop) (Q : Int32 → LSt → Prop) : Prop :=
  ((1 < a2 → (a1 ∈ ls_bx L ∧ (vp_in 0 2 ∧ lw_X2_known L (ls_br L a1 (0 : Int32).toNatClampNeg) (fun r40 L40 => (∃ o43 : Nat, r40 = some o43 ∧ (o43 ∈ ls_ow L40 ∧ (((ls_of L40 4 o43) < 1 → lj_X2_whyNoYoung_67 L40 Q) ∧ (¬ (ls_of L40 4 o43) < 1 → (a1 ∈ ls_bx L40 ∧ (vp_in 1 2 ∧ lw_X2_known L40 (ls_br L40 a1 (1 : Int32).toNatClampNeg) (fun r57 L57 => (∃ o60 : Nat, r57 = some o60 ∧ (o60 ∈ ls_ow L57 ∧ ((1 ≤ (ls_of L57 4 o60) → lw_X2_share L57 a1 (fun r71 L71 => Q (if 160 ≤ r71 then (if (L71.1 12) = 40 then 5 else 0) else 4) L71)) ∧ (¬ (1 ≤ (ls_of L57 4 o60)) → lj_X2_whyNoYoung_67 L57 Q))))))))))))))) ∧ (¬ (1 < a2) → (a1 ∈ ls_bx L ∧ (vp_in a2 2 ∧ (((ls_br L a1 a2.toNatClampNeg) = (-1) → Q (if a2 = 0 then 1 else 2) L) ∧ (¬ (ls_br L a1 a2.toNatClampNeg) = (-1) → k2 L a1 (a2 + 1)))))))
theorem lb_X2_whyNoYoung_2 {l : Launch} {p : Program} {e : Env} {s : State} {m : MethodId} {args : Array Value} {below : List Frame} {meth : Method} {c : Code} {D : va_G} {t0 : Nat} {g : Nat → Nat} {ca : Nat → ClassId} {A : Nat → Prop} (C : gx_C p s m args meth c cX2_whyNoYoung 3 (some .int) RX2) (hK : gK D ca s) (hG : gZ t0 A s) (hA : ∀ q, s.heap.size ≤ q → A q) {L : LSt} {a1 : Nat} {a2 : Int32} {k2 : LSt → Nat → Int32 → Prop} {Q : Int32 → LSt → Prop} (h : lj_X2_whyNoYoung_2 L a1 a2 k2 Q) (hk2 : ∀ (L : LSt) (a1 : Nat) (a2 : Int32), k2 L a1 a2 → gx_W p l e (headSpec (ws_ yX2_whyNoYoung cX2_whyNoYoung 3 (some .int)) rmX2_whyNoYoung).room s m args below meth c 3 (lm_I D t0 g ca A s L []) 0 0 (MQ below (va_Qi Q (lm_B D t0 g ca A) A) args s 0 0 A) 2 [(0, .ref (g 0)), (1, .ref a1), (2, .int a2)] []) : gx_W p l e (headSpec (ws_ yX2_whyNoYoung cX2_whyNoYoung 3 (some .int)) rmX2_whyNoYoung).room s m args below meth c 3 (lm_I D t0 g ca A s L []) 0 0 (MQ below (va_Qi Q (lm_B D t0 g ca A) A) args s 0 0 A) 2 [(0, .ref (g 0)), (1, .ref a1), (2, .int a2)] [] := by
  unfold lj_X2_whyNoYoung_2 at h
  refine gx_iload_n C dX2_whyNoYoung_2 rfl 2 rfl ?_
  refine gx_iconst (v := 1) C dX2_whyNoYoung_3 (by decide) ?_
  refine gx_icmp_gt (tgt := 33) C dX2_whyNoYoung_4 (by decide) (fun z => ?_) (fun z => ?_)
  · replace h := h.1 z
    refine gx_aload_n C dX2_whyNoYoung_33 rfl 0 rfl ?_
    refine gx_aload_n C dX2_whyNoYoung_34 rfl 1 rfl ?_
    obtain ⟨m35, h⟩ := h
    refine gw_getN C hK in_X5 rfl (ll_Hb m35) 1 (by decide) q393 rfl rfl dX2_whyNoYoung_35 ?_
    refine gx_iconst (v := 0) C dX2_whyNoYoung_38 (by decide) ?_
    obtain ⟨g39, h⟩ := h
    refine gw_iald C hK (ll_Hr m35) g39 dX2_whyNoYoung_39 ?_
    refine lm_callq (rest := []) C hK hG hA (fun Z sz => lk_X2_known h) (cwV 1 C.t (lw_V q1479 q1316 q1317 q120 q1318) rfl rfl rfl ⟨rfl, dmX2_known⟩ ⟨Nat.le_of_ble_eq_true rfl, Nat.le_of_ble_eq_true rfl⟩) rfl rfl (Nat.le_of_ble_eq_true rfl) ⟨Nat.zero_le _, Nat.zero_le _⟩ dX2_whyNoYoung_40 (fun r40 L40 h => ?_)
    obtain ⟨o43, e_o43, h⟩ := h
    have hh := h; subst e_o43; have h := hh; clear hh
    obtain ⟨m43, h⟩ := h
    refine gw_getN C hK in_X6 rfl (ll_Ho m43) 4 (by decide) q1235 rfl rfl dX2_whyNoYoung_43 ?_
    refine gx_iconst (v := 1) C dX2_whyNoYoung_46 (by decide) ?_
    refine gx_icmp_lt (tgt := 67) C dX2_whyNoYoung_47 (by decide) (fun z => ?_) (fun z => ?_)
    · replace h := h.1 z
      refine gx_sub [] rfl ?_
      exact lb_X2_whyNoYoung_67 C hK hG hA h
    · replace h := h.2 z
      refine gx_aload_n C dX2_whyNoYoung_50 rfl 0 rfl ?_
      refine gx_aload_n C dX2_whyNoYoung_51 rfl 1 rfl ?_
      obtain ⟨m52, h⟩ := h
      refine gw_getN C hK in_X5 rfl (ll_Hb m52) 1 (by decide) q393 rfl rfl dX2_whyNoYoung_52 ?_
      refine gx_iconst (v := 1) C dX2_whyNoYoung_55 (by decide) ?_
      obtain ⟨g56, h⟩ := h
      refine gw_iald C hK (ll_Hr m52) g56 dX2_whyNoYoung_56 ?_
      refine lm_callq (rest := []) C hK hG hA (fun Z sz => lk_X2_known h) (cwV 1 C.t (lw_V q1479 q1316 q1317 q120 q1318) rfl rfl rfl ⟨rfl, dmX2_known⟩ ⟨Nat.le_of_ble_eq_true rfl, Nat.le_of_ble_eq_true rfl⟩) rfl rfl (Nat.le_of_ble_eq_true rfl) ⟨Nat.zero_le _, Nat.zero_le _⟩ dX2_whyNoYoung_57 (fun r57 L57 h => ?_)
      obtain ⟨o60, e_o60, h⟩ := h
      have hh := h; subst e_o60; have h := hh; clear hh
      obtain ⟨m60, h⟩ := h
      refine gw_getN C hK in_X6 rfl (ll_Ho m60) 4 (by decide) q1235 rfl rfl dX2_whyNoYoung_60 ?_
      refine gx_iconst (v := 1) C dX2_whyNoYoung_63 (by decide) ?_
      refine gx_icmp_ge (tgt := 69) C dX2_whyNoYoung_64 (by decide) (fun z => ?_) (fun z => ?_)
      · replace h := h.1 z
        refine gx_aload_n C dX2_whyNoYoung_69 rfl 0 rfl ?_
        refine gx_aload_n C dX2_whyNoYoung_70 rfl 1 rfl ?_
        refine lm_calli (rest := []) C hK hG hA (fun Z sz => lk_X2_share h) (cwV 1 C.t (lw_V q1471 q1472 q1473 q120 q1474) rfl rfl rfl ⟨rfl, dmX2_share⟩ ⟨Nat.le_of_ble_eq_true rfl, Nat.le_of_ble_eq_true rfl⟩) rfl rfl (Nat.le_of_ble_eq_true rfl) ⟨Nat.zero_le _, Nat.zero_le _⟩ dX2_whyNoYoung_71 (fun r71 L71 h => ?_)
        refine gx_sipush (v := 160) C dX2_whyNoYoung_74 (by decide) ?_
        refine gx_phii (t := (if 160 ≤ r71 then (if (L71.1 12) = 40 then 5 else 0) else 4)) (pc2 := 98) (lv2 := [(0, .ref (g 0)), (1, .ref a1), (2, .int a2)]) (rest2 := []) (fun key => ?_) ?_
        · refine gx_icmp_ge (tgt := 84) C dX2_whyNoYoung_77 (by decide) (fun z1 => ?_) (fun z1 => ?_)
          · refine gx_aload_n C dX2_whyNoYoung_84 rfl 0 rfl ?_
            refine gw_get C hK in_X2 rfl ll_H0 12 (by decide) q254 rfl rfl dX2_whyNoYoung_85 ?_
            refine gx_bipush (v := 40) C dX2_whyNoYoung_88 (by decide) ?_
            refine gx_icmp_ne (tgt := 97) C dX2_whyNoYoung_90 (by decide) (fun z2 => ?_) (fun z2 => ?_)
            · refine gx_iconst (v := 0) C dX2_whyNoYoung_97 (by decide) ?_
              exact gx_casti ((if_pos z1).trans (if_neg z2)) key
            · refine gx_iconst (v := 5) C dX2_whyNoYoung_93 (by decide) ?_
              refine gx_goto (tgt := 98) C dX2_whyNoYoung_94 (by decide) ?_
              exact gx_casti ((if_pos z1).trans (if_pos z2)) key
          · refine gx_iconst (v := 4) C dX2_whyNoYoung_80 (by decide) ?_
            refine gx_goto (tgt := 98) C dX2_whyNoYoung_81 (by decide) ?_
            exact gx_casti (if_neg z1) key
        exact lm_iret C h (Nat.le_refl _) (Nat.le_refl _) dX2_whyNoYoung_98
      · replace h := h.2 z
        refine gx_sub [] rfl ?_
        exact lb_X2_whyNoYoung_67 C hK hG hA h
  · replace h := h.2 z
    refine gx_aload_n C dX2_whyNoYoung_7 rfl 1 rfl ?_
    obtain ⟨m8, h⟩ := h
    refine gw_getN C hK in_X5 rfl (ll_Hb m8) 1 (by decide) q393 rfl rfl dX2_whyNoYoung_8 ?_
    refine gx_iload_n C dX2_whyNoYoung_11 rfl 2 rfl ?_
    obtain ⟨g12, h⟩ := h
    refine gw_iald C hK (ll_Hr m8) g12 dX2_whyNoYoung_12 ?_
    refine gx_iconst (v := (-1)) C dX2_whyNoYoung_13 (by decide) ?_
    refine gx_icmp_ne (tgt := 27) C dX2_whyNoYoung_14 (by decide) (fun z => ?_) (fun z => ?_)
    · replace h := h.2 z
      refine gx_iinc (v := a2 + 1) (k := 2) (lv' := [(2, .int (a2 + 1)), (0, .ref (g 0)), (1, .ref a1)]) C dX2_whyNoYoung_27 rfl rfl (by decide) rfl ?_
      refine gx_goto (tgt := 2) C dX2_whyNoYoung_30 (by decide) ?_
      refine gx_sub [1, 2, 0] rfl ?_
      exact hk2 L a1 (a2 + 1) h
    · replace h := h.1 z
      refine gx_iload_n C dX2_whyNoYoung_17 rfl 2 rfl ?_
      refine gx_phii (t := (if a2 = 0 then 1 else 2)) (pc2 := 26) (lv2 := [(0, .ref (g 0)), (1, .ref a1), (2, .int a2)]) (rest2 := []) (fun key => ?_) ?_
      · refine gx_if_ne (tgt := 25) C dX2_whyNoYoung_18 (by decide) (fun z1 => ?_) (fun z1 => ?_)
        · refine gx_iconst (v := 2) C dX2_whyNoYoung_25 (by decide) ?_
          exact gx_casti (if_neg z1) key
        · refine gx_iconst (v := 1) C dX2_whyNoYoung_21 (by decide) ?_
          refine gx_goto (tgt := 26) C dX2_whyNoYoung_22 (by decide) ?_
          exact gx_casti (if_pos z1) key
      exact lm_iret C h (Nat.le_refl _) (Nat.le_refl _) dX2_whyNoYoung_26
def ll_X2_whyNoYoung_2 (Q : Int32 → LSt → Prop) : Nat → LSt → Nat → Int32 → Prop
  | 0, _, _, _ => False
  | n + 1, L, a1, a2 => lj_X2_whyNoYoung_2 L a1 a2 (fun L a1 a2 => ll_X2_whyNoYoung_2 Q n L a1 a2) Q
theorem le_X2_whyNoYoung_2 {l : Launch} {p : Program} {e : Env} {s : State} {m : MethodId} {args : Array Value} {below : List Frame} {meth : Method} {c : Code} {D : va_G} {t0 : Nat} {g : Nat → Nat} {ca : Nat → ClassId} {A : Nat → Prop} (C : gx_C p s m args meth c cX2_whyNoYoung 3 (some .int) RX2) (hK : gK D ca s) (hG : gZ t0 A s) (hA : ∀ q, s.heap.size ≤ q → A q) {Q : Int32 → LSt → Prop}  (n : Nat) : ∀ (L : LSt) (a1 : Nat) (a2 : Int32), ll_X2_whyNoYoung_2 Q n L a1 a2 → gx_W p l e (headSpec (ws_ yX2_whyNoYoung cX2_whyNoYoung 3 (some .int)) rmX2_whyNoYoung).room s m args below meth c 3 (lm_I D t0 g ca A s L []) 0 0 (MQ below (va_Qi Q (lm_B D t0 g ca A) A) args s 0 0 A) 2 [(0, .ref (g 0)), (1, .ref a1), (2, .int a2)] [] := by
  induction n with
  | zero => intro L a1 a2 h; exact False.elim h
  | succ n ih => intro L a1 a2 h; exact lb_X2_whyNoYoung_2 C hK hG hA (show lj_X2_whyNoYoung_2 L a1 a2 (fun L a1 a2 => ll_X2_whyNoYoung_2 Q n L a1 a2) Q from h) (fun L a1 a2 h => ih L a1 a2 h)
def lw_X2_whyNoYoung (L : LSt) (a1 : Nat) (Q : Int32 → LSt → Prop) : Prop :=
  ∃ n : Nat, ll_X2_whyNoYoung_2 Q n L a1 0
theorem lk_X2_whyNoYoung {l : Launch} {D : va_G} {t0 : Nat} {g : Nat → Nat} {ca : Nat → ClassId} {Z : va_W} {sz : Nat} {L : LSt} {a1 : Nat} {Q : Int32 → LSt → Prop} (h : lw_X2_whyNoYoung L a1 Q) : lm_Met l yX2_whyNoYoung cX2_whyNoYoung 3 (some .int) rmX2_whyNoYoung [.ref a1] D t0 g ca Z sz L (va_Qi Q (lm_B D t0 g ca (va_A (lm_ws g ca L Z) sz)) (va_A (lm_ws g ca L Z) sz)) 0 0 := by
  refine lm_entry (by decide) (Nat.le_of_ble_eq_true rfl) (fun p e s m args below meth c A eA hA hG C hK => ?_)
  rw [eA]
  unfold lw_X2_whyNoYoung at h
  show gx_W p l e (headSpec (ws_ yX2_whyNoYoung cX2_whyNoYoung 3 (some .int)) rmX2_whyNoYoung).room s m args below meth c 3 (lm_I D t0 g ca A s L []) 0 0 (MQ below (va_Qi Q (lm_B D t0 g ca A) A) args s 0 0 A) 0 [(0, .ref (g 0)), (1, .ref a1)] []
  refine gx_iconst (v := 0) C dX2_whyNoYoung_0 (by decide) ?_
  refine gx_istore_n (lv' := [(2, .int 0), (0, .ref (g 0)), (1, .ref a1)]) C dX2_whyNoYoung_1 rfl (by decide) rfl ?_
  refine gx_sub [1, 2, 0] rfl ?_
  obtain ⟨n, h⟩ := h
  exact le_X2_whyNoYoung_2 C hK hG hA n L a1 0 h
/-! Land.young(LOwlYears$Box;)I -/
abbrev rmX2_young : Room := { frames := 7, cells := 0, slots := 0, locals := 157 }
theorem dmX2_young : yX2_young.cls ≠ "java/lang/invoke/MethodHandle" ∧ yX2_young.cls ≠ "java/lang/invoke/VarHandle" ∧ (parseMethodDescriptor yX2_young.desc).map (fun d => d.parameters.length) = some 1 := by decide +kernel
def lj_X2_young_39 (L : LSt) (s0 : Int32) (Q : Int32 → LSt → Prop) : Prop :=
  Q s0 L
theorem lb_X2_young_39 {l : Launch} {p : Program} {e : Env} {s : State} {m : MethodId} {args : Array Value} {below : List Frame} {meth : Method} {c : Code} {D : va_G} {t0 : Nat} {g : Nat → Nat} {ca : Nat → ClassId} {A : Nat → Prop} (C : gx_C p s m args meth c cX2_young 3 (some .int) RX2) (hK : gK D ca s) (hG : gZ t0 A s) (hA : ∀ q, s.heap.size ≤ q → A q) {L : LSt} {s0 : Int32} {Q : Int32 → LSt → Prop} (h : lj_X2_young_39 L s0 Q)  : gx_W p l e (headSpec (ws_ yX2_young cX2_young 3 (some .int)) rmX2_young).room s m args below meth c 3 (lm_I D t0 g ca A s L []) 0 0 (MQ below (va_Qi Q (lm_B D t0 g ca A) A) args s 0 0 A) 39 [] [.int s0] := by
  unfold lj_X2_young_39 at h
  exact lm_iret C h (Nat.le_refl _) (Nat.le_refl _) dX2_young_39
def lw_X2_young (L : LSt) (a1 : Nat) (Q : Int32 → LSt → Prop) : Prop :=
  (∀ x12 : Int32, x12 = (if (40 - (L.1 12)) < 6 then (40 - (L.1 12)) else 6) → lw_X2_whyNoYoung L a1 (fun r15 L15 => ((r15 ≤ 0 → lw_X2_share L15 a1 (fun r28 L28 => lj_X2_young_39 L28 ((if ((r28 / 80) - 1) < x12 then ((r28 / 80) - 1) else x12)) Q)) ∧ (¬ (r15 ≤ 0) → lj_X2_young_39 L15 0 Q))))
theorem lk_X2_young {l : Launch} {D : va_G} {t0 : Nat} {g : Nat → Nat} {ca : Nat → ClassId} {Z : va_W} {sz : Nat} {L : LSt} {a1 : Nat} {Q : Int32 → LSt → Prop} (h : lw_X2_young L a1 Q) : lm_Met l yX2_young cX2_young 3 (some .int) rmX2_young [.ref a1] D t0 g ca Z sz L (va_Qi Q (lm_B D t0 g ca (va_A (lm_ws g ca L Z) sz)) (va_A (lm_ws g ca L Z) sz)) 0 0 := by
  refine lm_entry (by decide) (Nat.le_of_ble_eq_true rfl) (fun p e s m args below meth c A eA hA hG C hK => ?_)
  rw [eA]
  unfold lw_X2_young at h
  show gx_W p l e (headSpec (ws_ yX2_young cX2_young 3 (some .int)) rmX2_young).room s m args below meth c 3 (lm_I D t0 g ca A s L []) 0 0 (MQ below (va_Qi Q (lm_B D t0 g ca A) A) args s 0 0 A) 0 [(0, .ref (g 0)), (1, .ref a1)] []
  refine gx_bipush (v := 6) C dX2_young_0 (by decide) ?_
  refine gx_bipush (v := 40) C dX2_young_2 (by decide) ?_
  refine gx_aload_n C dX2_young_4 rfl 0 rfl ?_
  refine gw_get C hK in_X2 rfl ll_H0 12 (by decide) q254 rfl rfl dX2_young_5 ?_
  refine gx_isub C dX2_young_8 ?_
  refine gx_mmin (rest := []) C q1466 q470 q140 q471 (Nat.le_of_ble_eq_true rfl) (Nat.le_of_ble_eq_true rfl) ⟨Nat.zero_le _, Nat.zero_le _⟩ dX2_young_9 ?_
  refine gx_topi (fun x12 e_x12 => ?_)
  replace h := h x12 e_x12
  refine gx_istore_n (lv' := [(2, .int x12), (0, .ref (g 0)), (1, .ref a1)]) C dX2_young_12 rfl (by decide) rfl ?_
  refine gx_aload_n C dX2_young_13 rfl 1 rfl ?_
  refine gx_aload_n C dX2_young_14 rfl 2 rfl ?_
  refine lm_calli (rest := []) C hK hG hA (fun Z sz => lk_X2_whyNoYoung h) (cwV 1 C.t (lw_V q1521 q1522 q1523 q120 q1524) rfl rfl rfl ⟨rfl, dmX2_whyNoYoung⟩ ⟨Nat.le_of_ble_eq_true rfl, Nat.le_of_ble_eq_true rfl⟩) rfl rfl (Nat.le_of_ble_eq_true rfl) ⟨Nat.zero_le _, Nat.zero_le _⟩ dX2_young_15 (fun r15 L15 h => ?_)
  refine gx_if_le (tgt := 25) C dX2_young_18 (by decide) (fun z => ?_) (fun z => ?_)
  · replace h := h.1 z
    refine gx_iload_n C dX2_young_25 rfl 0 rfl ?_
    refine gx_aload_n C dX2_young_26 rfl 1 rfl ?_
    refine gx_aload_n C dX2_young_27 rfl 2 rfl ?_
    refine lm_calli (rest := [.int x12]) C hK hG hA (fun Z sz => lk_X2_share h) (cwV 1 C.t (lw_V q1471 q1472 q1473 q120 q1474) rfl rfl rfl ⟨rfl, dmX2_share⟩ ⟨Nat.le_of_ble_eq_true rfl, Nat.le_of_ble_eq_true rfl⟩) rfl rfl (Nat.le_of_ble_eq_true rfl) ⟨Nat.zero_le _, Nat.zero_le _⟩ dX2_young_28 (fun r28 L28 h => ?_)
    refine gx_bipush (v := 80) C dX2_young_31 (by decide) ?_
    refine gx_idiv C dX2_young_33 (by decide) ?_
    refine gx_iconst (v := 1) C dX2_young_34 (by decide) ?_
    refine gx_isub C dX2_young_35 ?_
    refine gx_mmin (rest := []) C q1466 q470 q140 q471 (Nat.le_of_ble_eq_true rfl) (Nat.le_of_ble_eq_true rfl) ⟨Nat.zero_le _, Nat.zero_le _⟩ dX2_young_36 ?_
    refine gx_sub [] rfl ?_
    exact lb_X2_young_39 C hK hG hA h
  · replace h := h.2 z
    refine gx_iconst (v := 0) C dX2_young_21 (by decide) ?_
    refine gx_goto (tgt := 39) C dX2_young_22 (by decide) ?_
    refine gx_sub [] rfl ?_
    exact lb_X2_young_39 C hK hG hA h
/-! Land.boxFor(I)I -/
abbrev rmX2_boxFor : Room := { frames := 6, cells := 0, slots := 0, locals := 135 }
theorem dmX2_boxFor : yX2_boxFor.cls ≠ "java/lang/invoke/MethodHandle" ∧ yX2_boxFor.cls ≠ "java/lang/invoke/VarHandle" ∧ (parseMethodDescriptor yX2_boxFor.desc).map (fun d => d.parameters.length) = some 1 := by decide +kernel
def lj_X2_boxFor_59 (L : LSt) (a1 : Int32) (a2 : Int32) (a3 : Int32) (a4 : Int32) (a5 : Int32) (s0 : Int32) (k17 : LSt → Int32 → Int32 → Int32 → Int32 → Int32 → Prop) (Q : Int32 → LSt → Prop) : Prop :=
  k17 L a1 ((if s0 ≤ a3 then a2 else a5)) ((if a3 < s0 then s0 else a3)) a4 (a5 + 1)
theorem lb_X2_boxFor_59 {l : Launch} {p : Program} {e : Env} {s : State} {m : MethodId} {args : Array Value} {below : List Frame} {meth : Method} {c : Code} {D : va_G} {t0 : Nat} {g : Nat → Nat} {ca : Nat → ClassId} {A : Nat → Prop} (C : gx_C p s m args meth c cX2_boxFor 8 (some .int) RX2) (hK : gK D ca s) (hG : gZ t0 A s) (hA : ∀ q, s.heap.size ≤ q → A q) {L : LSt} {a1 : Int32} {a2 : Int32} {a3 : Int32} {a4 : Int32} {a5 : Int32} {s0 : Int32} {k17 : LSt → Int32 → Int32 → Int32 → Int32 → Int32 → Prop} {Q : Int32 → LSt → Prop} (h : lj_X2_boxFor_59 L a1 a2 a3 a4 a5 s0 k17 Q) (hk17 : ∀ (L : LSt) (a1 : Int32) (a2 : Int32) (a3 : Int32) (a4 : Int32) (a5 : Int32), k17 L a1 a2 a3 a4 a5 → gx_W p l e (headSpec (ws_ yX2_boxFor cX2_boxFor 8 (some .int)) rmX2_boxFor).room s m args below meth c 8 (lm_I D t0 g ca A s L []) 0 0 (MQ below (va_Qi Q (lm_B D t0 g ca A) A) args s 0 0 A) 17 [(0, .ref (g 0)), (1, .int a1), (2, .int a2), (3, .int a3), (4, .int a4), (5, .int a5)] []) : gx_W p l e (headSpec (ws_ yX2_boxFor cX2_boxFor 8 (some .int)) rmX2_boxFor).room s m args below meth c 8 (lm_I D t0 g ca A s L []) 0 0 (MQ below (va_Qi Q (lm_B D t0 g ca A) A) args s 0 0 A) 59 [(0, .ref (g 0)), (1, .int a1), (2, .int a2), (3, .int a3), (4, .int a4), (5, .int a5)] [.int s0] := by
  unfold lj_X2_boxFor_59 at h
  refine gx_istore (lv' := [(7, .int s0), (0, .ref (g 0)), (1, .int a1), (2, .int a2), (3, .int a3), (4, .int a4), (5, .int a5)]) C dX2_boxFor_59 (by decide) rfl ?_
  refine gx_iload C dX2_boxFor_61 0 rfl ?_
  refine gx_iload_n C dX2_boxFor_63 rfl 4 rfl ?_
  refine gx_phii (t := (if s0 ≤ a3 then a2 else a5)) (pc2 := 73) (lv2 := [(7, .int s0), (0, .ref (g 0)), (1, .int a1), (2, .int a2), (3, .int a3), (4, .int a4), (5, .int a5)]) (rest2 := []) (fun key => ?_) ?_
  · refine gx_icmp_le (tgt := 72) C dX2_boxFor_64 (by decide) (fun z1 => ?_) (fun z1 => ?_)
    · refine gx_iload_n C dX2_boxFor_72 rfl 3 rfl ?_
      exact gx_casti (if_pos z1) key
    · refine gx_iload C dX2_boxFor_67 6 rfl ?_
      refine gx_goto (tgt := 73) C dX2_boxFor_69 (by decide) ?_
      exact gx_casti (if_neg z1) key
  refine gx_istore_n (lv' := [(2, .int ((if s0 ≤ a3 then a2 else a5))), (7, .int s0), (0, .ref (g 0)), (1, .int a1), (3, .int a3), (4, .int a4), (5, .int a5)]) C dX2_boxFor_73 rfl (by decide) rfl ?_
  refine gx_iload_n C dX2_boxFor_74 rfl 4 rfl ?_
  refine gx_iload C dX2_boxFor_75 1 rfl ?_
  refine gx_mmax (rest := []) C q1538 q429 q140 q430 (Nat.le_of_ble_eq_true rfl) (Nat.le_of_ble_eq_true rfl) ⟨Nat.zero_le _, Nat.zero_le _⟩ dX2_boxFor_77 ?_
  refine gx_istore_n (lv' := [(3, .int ((if a3 < s0 then s0 else a3))), (2, .int ((if s0 ≤ a3 then a2 else a5))), (7, .int s0), (0, .ref (g 0)), (1, .int a1), (4, .int a4), (5, .int a5)]) C dX2_boxFor_80 rfl (by decide) rfl ?_
  refine gx_iinc (v := a5 + 1) (k := 6) (lv' := [(5, .int (a5 + 1)), (3, .int ((if a3 < s0 then s0 else a3))), (2, .int ((if s0 ≤ a3 then a2 else a5))), (7, .int s0), (0, .ref (g 0)), (1, .int a1), (4, .int a4)]) C dX2_boxFor_81 rfl rfl (by decide) rfl ?_
  refine gx_goto (tgt := 17) C dX2_boxFor_84 (by decide) ?_
  refine gx_sub [4, 5, 2, 1, 6, 0] rfl ?_
  exact hk17 L a1 ((if s0 ≤ a3 then a2 else a5)) ((if a3 < s0 then s0 else a3)) a4 (a5 + 1) h
def lj_X2_boxFor_17 (L : LSt) (a1 : Int32) (a2 : Int32) (a3 : Int32) (a4 : Int32) (a5 : Int32) (k17 : LSt → Int32 → Int32 → Int32 → Int32 → Int32 → Prop) (Q : Int32 → LSt → Prop) : Prop :=
  ((a4 ≤ a5 → Q a2 L) ∧ (¬ (a4 ≤ a5) → (vp_in a5 (ls_bx L).length ∧ ∀ o30 : Nat, o30 = (ls_bx L).getD a5.toNatClampNeg 0 → (vp_in a1 2 ∧ (((ls_br L o30 a1.toNatClampNeg) = (-1) → lw_X2_share L o30 (fun r52 L52 => lj_X2_boxFor_59 L52 a1 a2 a3 a4 a5 r52 k17 Q)) ∧ (¬ (ls_br L o30 a1.toNatClampNeg) = (-1) → lj_X2_boxFor_59 L a1 a2 a3 a4 a5 0 k17 Q))))))
theorem lb_X2_boxFor_17 {l : Launch} {p : Program} {e : Env} {s : State} {m : MethodId} {args : Array Value} {below : List Frame} {meth : Method} {c : Code} {D : va_G} {t0 : Nat} {g : Nat → Nat} {ca : Nat → ClassId} {A : Nat → Prop} (C : gx_C p s m args meth c cX2_boxFor 8 (some .int) RX2) (hK : gK D ca s) (hG : gZ t0 A s) (hA : ∀ q, s.heap.size ≤ q → A q) {L : LSt} {a1 : Int32} {a2 : Int32} {a3 : Int32} {a4 : Int32} {a5 : Int32} {k17 : LSt → Int32 → Int32 → Int32 → Int32 → Int32 → Prop} {Q : Int32 → LSt → Prop} (h : lj_X2_boxFor_17 L a1 a2 a3 a4 a5 k17 Q) (hk17 : ∀ (L : LSt) (a1 : Int32) (a2 : Int32) (a3 : Int32) (a4 : Int32) (a5 : Int32), k17 L a1 a2 a3 a4 a5 → gx_W p l e (headSpec (ws_ yX2_boxFor cX2_boxFor 8 (some .int)) rmX2_boxFor).room s m args below meth c 8 (lm_I D t0 g ca A s L []) 0 0 (MQ below (va_Qi Q (lm_B D t0 g ca A) A) args s 0 0 A) 17 [(0, .ref (g 0)), (1, .int a1), (2, .int a2), (3, .int a3), (4, .int a4), (5, .int a5)] []) : gx_W p l e (headSpec (ws_ yX2_boxFor cX2_boxFor 8 (some .int)) rmX2_boxFor).room s m args below meth c 8 (lm_I D t0 g ca A s L []) 0 0 (MQ below (va_Qi Q (lm_B D t0 g ca A) A) args s 0 0 A) 17 [(0, .ref (g 0)), (1, .int a1), (2, .int a2), (3, .int a3), (4, .int a4), (5, .int a5)] [] := by
  unfold lj_X2_boxFor_17 at h
  refine gx_iload C dX2_boxFor_17 5 rfl ?_
  refine gx_iload C dX2_boxFor_19 4 rfl ?_
  refine gx_icmp_ge (tgt := 87) C dX2_boxFor_21 (by decide) (fun z => ?_) (fun z => ?_)
  · replace h := h.1 z
    refine gx_iload_n C dX2_boxFor_87 rfl 2 rfl ?_
    exact lm_iret C h (Nat.le_refl _) (Nat.le_refl _) dX2_boxFor_88
  · replace h := h.2 z
    refine gx_aload_n C dX2_boxFor_24 rfl 0 rfl ?_
    refine gw_get C hK in_X2 rfl ll_H0 3 (by decide) q237 rfl rfl dX2_boxFor_25 ?_
    refine gx_iload C dX2_boxFor_28 5 rfl ?_
    obtain ⟨g30, h⟩ := h
    refine al_rget C hK ll_bl g30 (cwV 1 C.t (lw_V q364 q365 q366 q123 q367) rfl rfl rfl ⟨rfl, dmJ2_get⟩ ⟨Nat.le_of_ble_eq_true rfl, Nat.le_of_ble_eq_true rfl⟩) (Nat.le_of_ble_eq_true rfl) ⟨Nat.zero_le _, Nat.zero_le _⟩ dX2_boxFor_30 (fun o30 e_o30 => ?_)
    replace h := h o30 e_o30
    have m_o30 : o30 ∈ ls_bx L := e_o30 ▸ al_mem g30
    refine gw_cast C hK (ci := 4) rfl (ll_Hb m_o30) q378 dX2_boxFor_33 ?_
    refine gx_astore (lv' := [(6, .ref o30), (0, .ref (g 0)), (1, .int a1), (2, .int a2), (3, .int a3), (4, .int a4), (5, .int a5)]) C dX2_boxFor_36 (by decide) rfl ?_
    refine gx_aload C dX2_boxFor_38 0 rfl ?_
    refine gw_getN C hK in_X5 rfl (ll_Hb m_o30) 1 (by decide) q393 rfl rfl dX2_boxFor_40 ?_
    refine gx_iload_n C dX2_boxFor_43 rfl 2 rfl ?_
    obtain ⟨g44, h⟩ := h
    refine gw_iald C hK (ll_Hr m_o30) g44 dX2_boxFor_44 ?_
    refine gx_iconst (v := (-1)) C dX2_boxFor_45 (by decide) ?_
    refine gx_icmp_ne (tgt := 58) C dX2_boxFor_46 (by decide) (fun z => ?_) (fun z => ?_)
    · replace h := h.2 z
      refine gx_iconst (v := 0) C dX2_boxFor_58 (by decide) ?_
      refine gx_sub [1, 2, 3, 4, 5, 6] rfl ?_
      exact lb_X2_boxFor_59 C hK hG hA h hk17
    · replace h := h.1 z
      refine gx_aload_n C dX2_boxFor_49 rfl 1 rfl ?_
      refine gx_aload C dX2_boxFor_50 0 rfl ?_
      refine lm_calli (rest := []) C hK hG hA (fun Z sz => lk_X2_share h) (cwV 1 C.t (lw_V q1471 q1472 q1473 q120 q1474) rfl rfl rfl ⟨rfl, dmX2_share⟩ ⟨Nat.le_of_ble_eq_true rfl, Nat.le_of_ble_eq_true rfl⟩) rfl rfl (Nat.le_of_ble_eq_true rfl) ⟨Nat.zero_le _, Nat.zero_le _⟩ dX2_boxFor_52 (fun r52 L52 h => ?_)
      refine gx_goto (tgt := 59) C dX2_boxFor_55 (by decide) ?_
      refine gx_sub [1, 2, 3, 4, 5, 6] rfl ?_
      exact lb_X2_boxFor_59 C hK hG hA h hk17
def ll_X2_boxFor_17 (Q : Int32 → LSt → Prop) : Nat → LSt → Int32 → Int32 → Int32 → Int32 → Int32 → Prop
  | 0, _, _, _, _, _, _ => False
  | n + 1, L, a1, a2, a3, a4, a5 => lj_X2_boxFor_17 L a1 a2 a3 a4 a5 (fun L a1 a2 a3 a4 a5 => ll_X2_boxFor_17 Q n L a1 a2 a3 a4 a5) Q
theorem le_X2_boxFor_17 {l : Launch} {p : Program} {e : Env} {s : State} {m : MethodId} {args : Array Value} {below : List Frame} {meth : Method} {c : Code} {D : va_G} {t0 : Nat} {g : Nat → Nat} {ca : Nat → ClassId} {A : Nat → Prop} (C : gx_C p s m args meth c cX2_boxFor 8 (some .int) RX2) (hK : gK D ca s) (hG : gZ t0 A s) (hA : ∀ q, s.heap.size ≤ q → A q) {Q : Int32 → LSt → Prop}  (n : Nat) : ∀ (L : LSt) (a1 : Int32) (a2 : Int32) (a3 : Int32) (a4 : Int32) (a5 : Int32), ll_X2_boxFor_17 Q n L a1 a2 a3 a4 a5 → gx_W p l e (headSpec (ws_ yX2_boxFor cX2_boxFor 8 (some .int)) rmX2_boxFor).room s m args below meth c 8 (lm_I D t0 g ca A s L []) 0 0 (MQ below (va_Qi Q (lm_B D t0 g ca A) A) args s 0 0 A) 17 [(0, .ref (g 0)), (1, .int a1), (2, .int a2), (3, .int a3), (4, .int a4), (5, .int a5)] [] := by
  induction n with
  | zero => intro L a1 a2 a3 a4 a5 h; exact False.elim h
  | succ n ih => intro L a1 a2 a3 a4 a5 h; exact lb_X2_boxFor_17 C hK hG hA (show lj_X2_boxFor_17 L a1 a2 a3 a4 a5 (fun L a1 a2 a3 a4 a5 => ll_X2_boxFor_17 Q n L a1 a2 a3 a4 a5) Q from h) (fun L a1 a2 a3 a4 a5 h => ih L a1 a2 a3 a4 a5 h)
def lw_X2_boxFor (L : LSt) (a1 : Int32) (Q : Int32 → LSt → Prop) : Prop :=
  ∃ n : Nat, ll_X2_boxFor_17 Q n L a1 (-1) 59 (nI (ls_bx L).length) 0
theorem lk_X2_boxFor {l : Launch} {D : va_G} {t0 : Nat} {g : Nat → Nat} {ca : Nat → ClassId} {Z : va_W} {sz : Nat} {L : LSt} {a1 : Int32} {Q : Int32 → LSt → Prop} (h : lw_X2_boxFor L a1 Q) : lm_Met l yX2_boxFor cX2_boxFor 8 (some .int) rmX2_boxFor [.int a1] D t0 g ca Z sz L (va_Qi Q (lm_B D t0 g ca (va_A (lm_ws g ca L Z) sz)) (va_A (lm_ws g ca L Z) sz)) 0 0 := by
  refine lm_entry (by decide) (Nat.le_of_ble_eq_true rfl) (fun p e s m args below meth c A eA hA hG C hK => ?_)
  rw [eA]
  unfold lw_X2_boxFor at h
  show gx_W p l e (headSpec (ws_ yX2_boxFor cX2_boxFor 8 (some .int)) rmX2_boxFor).room s m args below meth c 8 (lm_I D t0 g ca A s L []) 0 0 (MQ below (va_Qi Q (lm_B D t0 g ca A) A) args s 0 0 A) 0 [(0, .ref (g 0)), (1, .int a1)] []
  refine gx_iconst (v := (-1)) C dX2_boxFor_0 (by decide) ?_
  refine gx_istore_n (lv' := [(2, .int ((-1))), (0, .ref (g 0)), (1, .int a1)]) C dX2_boxFor_1 rfl (by decide) rfl ?_
  refine gx_bipush (v := 59) C dX2_boxFor_2 (by decide) ?_
  refine gx_istore_n (lv' := [(3, .int 59), (2, .int ((-1))), (0, .ref (g 0)), (1, .int a1)]) C dX2_boxFor_4 rfl (by decide) rfl ?_
  refine gx_aload_n C dX2_boxFor_5 rfl 2 rfl ?_
  refine gw_get C hK in_X2 rfl ll_H0 3 (by decide) q237 rfl rfl dX2_boxFor_6 ?_
  refine al_rsize (n := 0) C hK ll_bl (cwV 0 C.t (lw_V q360 q361 q362 q123 q363) rfl rfl rfl ⟨rfl, dmJ2_size⟩ ⟨Nat.le_of_ble_eq_true rfl, Nat.le_of_ble_eq_true rfl⟩) (Nat.le_of_ble_eq_true rfl) ⟨Nat.zero_le _, Nat.zero_le _⟩ dX2_boxFor_9 ?_
  refine gx_istore (lv' := [(4, .int (nI (ls_bx L).length)), (3, .int 59), (2, .int ((-1))), (0, .ref (g 0)), (1, .int a1)]) C dX2_boxFor_12 (by decide) rfl ?_
  refine gx_iconst (v := 0) C dX2_boxFor_14 (by decide) ?_
  refine gx_istore (lv' := [(5, .int 0), (4, .int (nI (ls_bx L).length)), (3, .int 59), (2, .int ((-1))), (0, .ref (g 0)), (1, .int a1)]) C dX2_boxFor_15 (by decide) rfl ?_
  refine gx_sub [4, 5, 3, 2, 1, 0] rfl ?_
  obtain ⟨n, h⟩ := h
  exact le_X2_boxFor_17 C hK hG hA n L a1 (-1) 59 (nI (ls_bx L).length) 0 h
/-! Land.moveIn(LOwlYears$Owl;I)V -/
abbrev rmX2_moveIn : Room := { frames := 4, cells := 0, slots := 0, locals := 85 }
theorem dmX2_moveIn : yX2_moveIn.cls ≠ "java/lang/invoke/MethodHandle" ∧ yX2_moveIn.cls ≠ "java/lang/invoke/VarHandle" ∧ (parseMethodDescriptor yX2_moveIn.desc).map (fun d => d.parameters.length) = some 2 := by decide +kernel
def lw_X2_moveIn (L : LSt) (a1 : Nat) (a2 : Int32) (Q : LSt → Prop) : Prop :=
  (a1 ∈ ls_ow L ∧ (∀ L2 : LSt, L2 = ls_o L 5 a1 a2 → lw_X2_box L2 a2 (fun r7 L7 => (∃ o10 : Nat, r7 = some o10 ∧ (o10 ∈ ls_bx L7 ∧ (a1 ∈ ls_ow L7 ∧ (vp_in (ls_of L7 1 a1) 2 ∧ (∀ L21 : LSt, L21 = ls_b L7 o10 (ls_of L7 1 a1) (ls_of L7 0 a1) → Q L21))))))))
theorem lk_X2_moveIn {l : Launch} {D : va_G} {t0 : Nat} {g : Nat → Nat} {ca : Nat → ClassId} {Z : va_W} {sz : Nat} {L : LSt} {a1 : Nat} {a2 : Int32} {Q : LSt → Prop} (h : lw_X2_moveIn L a1 a2 Q) : lm_Met l yX2_moveIn cX2_moveIn 3 none rmX2_moveIn [.ref a1, .int a2] D t0 g ca Z sz L (va_Qv Q (lm_B D t0 g ca (va_A (lm_ws g ca L Z) sz)) (va_A (lm_ws g ca L Z) sz)) 0 0 := by
  refine lm_entry (by decide) (Nat.le_of_ble_eq_true rfl) (fun p e s m args below meth c A eA hA hG C hK => ?_)
  rw [eA]
  unfold lw_X2_moveIn at h
  show gx_W p l e (headSpec (ws_ yX2_moveIn cX2_moveIn 3 none) rmX2_moveIn).room s m args below meth c 3 (lm_I D t0 g ca A s L []) 0 0 (MQ below (va_Qv Q (lm_B D t0 g ca A) A) args s 0 0 A) 0 [(0, .ref (g 0)), (1, .ref a1), (2, .int a2)] []
  refine gx_aload_n C dX2_moveIn_0 rfl 1 rfl ?_
  refine gx_iload_n C dX2_moveIn_1 rfl 2 rfl ?_
  obtain ⟨m2, h⟩ := h
  refine gw_putN C hK in_X6 tyX6 tyX6_ok nmX6 rfl 5 (by decide) q1238 rfl rfl (fs := lo_fs L a1) (ty := .int) rfl rfl rfl (show 5 < 7 by decide) (ll_Uo5 _ m2) dX2_moveIn_2 ?_
  refine lm_name (fun L2 e_L2 => ?_)
  replace h := h L2 e_L2
  refine gx_aload_n C dX2_moveIn_5 rfl 0 rfl ?_
  refine gx_iload_n C dX2_moveIn_6 rfl 2 rfl ?_
  refine lm_callq (rest := []) C hK hG hA (fun Z sz => lk_X2_box h) (cwV 1 C.t (lw_V q1488 q1489 q1490 q120 q1491) rfl rfl rfl ⟨rfl, dmX2_box⟩ ⟨Nat.le_of_ble_eq_true rfl, Nat.le_of_ble_eq_true rfl⟩) rfl rfl (Nat.le_of_ble_eq_true rfl) ⟨Nat.zero_le _, Nat.zero_le _⟩ dX2_moveIn_7 (fun r7 L7 h => ?_)
  obtain ⟨o10, e_o10, h⟩ := h
  have hh := h; subst e_o10; have h := hh; clear hh
  obtain ⟨m10, h⟩ := h
  refine gw_getN C hK in_X5 rfl (ll_Hb m10) 1 (by decide) q393 rfl rfl dX2_moveIn_10 ?_
  refine gx_aload_n C dX2_moveIn_13 rfl 1 rfl ?_
  obtain ⟨m14, h⟩ := h
  refine gw_getN C hK in_X6 rfl (ll_Ho m14) 1 (by decide) q1228 rfl rfl dX2_moveIn_14 ?_
  refine gx_aload_n C dX2_moveIn_17 rfl 1 rfl ?_
  refine gw_getN C hK in_X6 rfl (ll_Ho m14) 0 (by decide) q1225 rfl rfl dX2_moveIn_18 ?_
  obtain ⟨g21, h⟩ := h
  refine gw_iast C hK (ll_Ub _ _ m10) g21 dX2_moveIn_21 ?_
  refine lm_name (fun L21 e_L21 => ?_)
  replace h := h L21 e_L21
  exact lm_vret C h (Nat.le_refl _) (Nat.le_refl _) dX2_moveIn_22
/-! Land.settle()V -/
abbrev rmX2_settle : Room := { frames := 7, cells := 0, slots := 0, locals := 162 }
theorem dmX2_settle : yX2_settle.cls ≠ "java/lang/invoke/MethodHandle" ∧ yX2_settle.cls ≠ "java/lang/invoke/VarHandle" ∧ (parseMethodDescriptor yX2_settle.desc).map (fun d => d.parameters.length) = some 0 := by decide +kernel
def lj_X2_settle_73 (L : LSt) (a1 : Int32) (a2 : Int32) (k10 : LSt → Int32 → Int32 → Prop) (Q : LSt → Prop) : Prop :=
  k10 L a1 (a2 + 1)
theorem lb_X2_settle_73 {l : Launch} {p : Program} {e : Env} {s : State} {m : MethodId} {args : Array Value} {below : List Frame} {meth : Method} {c : Code} {D : va_G} {t0 : Nat} {g : Nat → Nat} {ca : Nat → ClassId} {A : Nat → Prop} (C : gx_C p s m args meth c cX2_settle 5 none RX2) (hK : gK D ca s) (hG : gZ t0 A s) (hA : ∀ q, s.heap.size ≤ q → A q) {L : LSt} {a1 : Int32} {a2 : Int32} {k10 : LSt → Int32 → Int32 → Prop} {Q : LSt → Prop} (h : lj_X2_settle_73 L a1 a2 k10 Q) (hk10 : ∀ (L : LSt) (a1 : Int32) (a2 : Int32), k10 L a1 a2 → gx_W p l e (headSpec (ws_ yX2_settle cX2_settle 5 none) rmX2_settle).room s m args below meth c 5 (lm_I D t0 g ca A s L []) 0 0 (MQ below (va_Qv Q (lm_B D t0 g ca A) A) args s 0 0 A) 10 [(0, .ref (g 0)), (1, .int a1), (2, .int a2)] []) : gx_W p l e (headSpec (ws_ yX2_settle cX2_settle 5 none) rmX2_settle).room s m args below meth c 5 (lm_I D t0 g ca A s L []) 0 0 (MQ below (va_Qv Q (lm_B D t0 g ca A) A) args s 0 0 A) 73 [(0, .ref (g 0)), (1, .int a1), (2, .int a2)] [] := by
  unfold lj_X2_settle_73 at h
  refine gx_iinc (v := a2 + 1) (k := 2) (lv' := [(2, .int (a2 + 1)), (0, .ref (g 0)), (1, .int a1)]) C dX2_settle_73 rfl rfl (by decide) rfl ?_
  refine gx_goto (tgt := 10) C dX2_settle_76 (by decide) ?_
  refine gx_sub [1, 2, 0] rfl ?_
  exact hk10 L a1 (a2 + 1) h
def lj_X2_settle_10 (L : LSt) (a1 : Int32) (a2 : Int32) (k10 : LSt → Int32 → Int32 → Prop) (Q : LSt → Prop) : Prop :=
  ((a1 ≤ a2 → Q L) ∧ (¬ (a1 ≤ a2) → (vp_in a2 (ls_ow L).length ∧ ∀ o20 : Nat, o20 = (ls_ow L).getD a2.toNatClampNeg 0 → (((ls_of L 6 o20) = 0 → lj_X2_settle_73 L a1 a2 k10 Q) ∧ (¬ (ls_of L 6 o20) = 0 → (((ls_of L 5 o20) = (-1) → (((ls_of L 4 o20) < 1 → lj_X2_settle_73 L a1 a2 k10 Q) ∧ (¬ (ls_of L 4 o20) < 1 → lw_X2_boxFor L (ls_of L 1 o20) (fun r55 L55 => ((r55 = (-1) → lj_X2_settle_73 L55 a1 a2 k10 Q) ∧ (¬ (r55 = (-1)) → lw_X2_moveIn L55 o20 r55 (fun L70 => lj_X2_settle_73 L70 a1 a2 k10 Q))))))) ∧ (¬ (ls_of L 5 o20) = (-1) → lj_X2_settle_73 L a1 a2 k10 Q)))))))
theorem lb_X2_settle_10 {l : Launch} {p : Program} {e : Env} {s : State} {m : MethodId} {args : Array Value} {below : List Frame} {meth : Method} {c : Code} {D : va_G} {t0 : Nat} {g : Nat → Nat} {ca : Nat → ClassId} {A : Nat → Prop} (C : gx_C p s m args meth c cX2_settle 5 none RX2) (hK : gK D ca s) (hG : gZ t0 A s) (hA : ∀ q, s.heap.size ≤ q → A q) {L : LSt} {a1 : Int32} {a2 : Int32} {k10 : LSt → Int32 → Int32 → Prop} {Q : LSt → Prop} (h : lj_X2_settle_10 L a1 a2 k10 Q) (hk10 : ∀ (L : LSt) (a1 : Int32) (a2 : Int32), k10 L a1 a2 → gx_W p l e (headSpec (ws_ yX2_settle cX2_settle 5 none) rmX2_settle).room s m args below meth c 5 (lm_I D t0 g ca A s L []) 0 0 (MQ below (va_Qv Q (lm_B D t0 g ca A) A) args s 0 0 A) 10 [(0, .ref (g 0)), (1, .int a1), (2, .int a2)] []) : gx_W p l e (headSpec (ws_ yX2_settle cX2_settle 5 none) rmX2_settle).room s m args below meth c 5 (lm_I D t0 g ca A s L []) 0 0 (MQ below (va_Qv Q (lm_B D t0 g ca A) A) args s 0 0 A) 10 [(0, .ref (g 0)), (1, .int a1), (2, .int a2)] [] := by
  unfold lj_X2_settle_10 at h
  refine gx_iload_n C dX2_settle_10 rfl 2 rfl ?_
  refine gx_iload_n C dX2_settle_11 rfl 1 rfl ?_
  refine gx_icmp_ge (tgt := 79) C dX2_settle_12 (by decide) (fun z => ?_) (fun z => ?_)
  · replace h := h.1 z
    exact lm_vret C h (Nat.le_refl _) (Nat.le_refl _) dX2_settle_79
  · replace h := h.2 z
    refine gx_aload_n C dX2_settle_15 rfl 0 rfl ?_
    refine gw_get C hK in_X2 rfl ll_H0 5 (by decide) q240 rfl rfl dX2_settle_16 ?_
    refine gx_iload_n C dX2_settle_19 rfl 2 rfl ?_
    obtain ⟨g20, h⟩ := h
    refine al_rget C hK ll_ol g20 (cwV 1 C.t (lw_V q364 q365 q366 q123 q367) rfl rfl rfl ⟨rfl, dmJ2_get⟩ ⟨Nat.le_of_ble_eq_true rfl, Nat.le_of_ble_eq_true rfl⟩) (Nat.le_of_ble_eq_true rfl) ⟨Nat.zero_le _, Nat.zero_le _⟩ dX2_settle_20 (fun o20 e_o20 => ?_)
    replace h := h o20 e_o20
    have m_o20 : o20 ∈ ls_ow L := e_o20 ▸ al_mem g20
    refine gw_cast C hK (ci := 5) rfl (ll_Ho m_o20) q1213 dX2_settle_23 ?_
    refine gx_astore_n (lv' := [(3, .ref o20), (0, .ref (g 0)), (1, .int a1), (2, .int a2)]) C dX2_settle_26 rfl (by decide) rfl ?_
    refine gx_aload_n C dX2_settle_27 rfl 0 rfl ?_
    refine gw_getN C hK in_X6 rfl (ll_Ho m_o20) 6 (by decide) q1242 rfl rfl dX2_settle_28 ?_
    refine gx_if_eq (tgt := 73) C dX2_settle_31 (by decide) (fun z => ?_) (fun z => ?_)
    · replace h := h.1 z
      refine gx_sub [1, 2, 3] rfl ?_
      exact lb_X2_settle_73 C hK hG hA h hk10
    · replace h := h.2 z
      refine gx_aload_n C dX2_settle_34 rfl 0 rfl ?_
      refine gw_getN C hK in_X6 rfl (ll_Ho m_o20) 5 (by decide) q1238 rfl rfl dX2_settle_35 ?_
      refine gx_iconst (v := (-1)) C dX2_settle_38 (by decide) ?_
      refine gx_icmp_ne (tgt := 73) C dX2_settle_39 (by decide) (fun z => ?_) (fun z => ?_)
      · replace h := h.2 z
        refine gx_sub [1, 2, 3] rfl ?_
        exact lb_X2_settle_73 C hK hG hA h hk10
      · replace h := h.1 z
        refine gx_aload_n C dX2_settle_42 rfl 0 rfl ?_
        refine gw_getN C hK in_X6 rfl (ll_Ho m_o20) 4 (by decide) q1235 rfl rfl dX2_settle_43 ?_
        refine gx_iconst (v := 1) C dX2_settle_46 (by decide) ?_
        refine gx_icmp_lt (tgt := 73) C dX2_settle_47 (by decide) (fun z => ?_) (fun z => ?_)
        · replace h := h.1 z
          refine gx_sub [1, 2, 3] rfl ?_
          exact lb_X2_settle_73 C hK hG hA h hk10
        · replace h := h.2 z
          refine gx_aload_n C dX2_settle_50 rfl 1 rfl ?_
          refine gx_aload_n C dX2_settle_51 rfl 0 rfl ?_
          refine gw_getN C hK in_X6 rfl (ll_Ho m_o20) 1 (by decide) q1228 rfl rfl dX2_settle_52 ?_
          refine lm_calli (rest := []) C hK hG hA (fun Z sz => lk_X2_boxFor h) (cwV 1 C.t (lw_V q1534 q1536 qs23 q120 q1537) rfl rfl rfl ⟨rfl, dmX2_boxFor⟩ ⟨Nat.le_of_ble_eq_true rfl, Nat.le_of_ble_eq_true rfl⟩) rfl rfl (Nat.le_of_ble_eq_true rfl) ⟨Nat.zero_le _, Nat.zero_le _⟩ dX2_settle_55 (fun r55 L55 h => ?_)
          refine gx_istore (lv' := [(4, .int r55), (3, .ref o20), (0, .ref (g 0)), (1, .int a1), (2, .int a2)]) C dX2_settle_58 (by decide) rfl ?_
          refine gx_iload C dX2_settle_60 0 rfl ?_
          refine gx_iconst (v := (-1)) C dX2_settle_62 (by decide) ?_
          refine gx_icmp_eq (tgt := 73) C dX2_settle_63 (by decide) (fun z => ?_) (fun z => ?_)
          · replace h := h.1 z
            refine gx_sub [2, 3, 4] rfl ?_
            exact lb_X2_settle_73 C hK hG hA h hk10
          · replace h := h.2 z
            refine gx_aload_n C dX2_settle_66 rfl 2 rfl ?_
            refine gx_aload_n C dX2_settle_67 rfl 1 rfl ?_
            refine gx_iload C dX2_settle_68 0 rfl ?_
            refine lm_callv (rest := []) C hK hG hA (fun Z sz => lk_X2_moveIn h) (cwV 2 C.t (lw_V q1539 q1541 qs24 q120 q1542) rfl rfl rfl ⟨rfl, dmX2_moveIn⟩ ⟨Nat.le_of_ble_eq_true rfl, Nat.le_of_ble_eq_true rfl⟩) rfl rfl (Nat.le_of_ble_eq_true rfl) ⟨Nat.zero_le _, Nat.zero_le _⟩ dX2_settle_70 (fun L70 h => ?_)
            refine gx_sub [2, 3, 4] rfl ?_
            exact lb_X2_settle_73 C hK hG hA h hk10
def ll_X2_settle_10 (Q : LSt → Prop) : Nat → LSt → Int32 → Int32 → Prop
  | 0, _, _, _ => False
  | n + 1, L, a1, a2 => lj_X2_settle_10 L a1 a2 (fun L a1 a2 => ll_X2_settle_10 Q n L a1 a2) Q
theorem le_X2_settle_10 {l : Launch} {p : Program} {e : Env} {s : State} {m : MethodId} {args : Array Value} {below : List Frame} {meth : Method} {c : Code} {D : va_G} {t0 : Nat} {g : Nat → Nat} {ca : Nat → ClassId} {A : Nat → Prop} (C : gx_C p s m args meth c cX2_settle 5 none RX2) (hK : gK D ca s) (hG : gZ t0 A s) (hA : ∀ q, s.heap.size ≤ q → A q) {Q : LSt → Prop}  (n : Nat) : ∀ (L : LSt) (a1 : Int32) (a2 : Int32), ll_X2_settle_10 Q n L a1 a2 → gx_W p l e (headSpec (ws_ yX2_settle cX2_settle 5 none) rmX2_settle).room s m args below meth c 5 (lm_I D t0 g ca A s L []) 0 0 (MQ below (va_Qv Q (lm_B D t0 g ca A) A) args s 0 0 A) 10 [(0, .ref (g 0)), (1, .int a1), (2, .int a2)] [] := by
  induction n with
  | zero => intro L a1 a2 h; exact False.elim h
  | succ n ih => intro L a1 a2 h; exact lb_X2_settle_10 C hK hG hA (show lj_X2_settle_10 L a1 a2 (fun L a1 a2 => ll_X2_settle_10 Q n L a1 a2) Q from h) (fun L a1 a2 h => ih L a1 a2 h)
def lw_X2_settle (L : LSt) (Q : LSt → Prop) : Prop :=
  ∃ n : Nat, ll_X2_settle_10 Q n L (nI (ls_ow L).length) 0
theorem lk_X2_settle {l : Launch} {D : va_G} {t0 : Nat} {g : Nat → Nat} {ca : Nat → ClassId} {Z : va_W} {sz : Nat} {L : LSt} {Q : LSt → Prop} (h : lw_X2_settle L Q) : lm_Met l yX2_settle cX2_settle 5 none rmX2_settle [] D t0 g ca Z sz L (va_Qv Q (lm_B D t0 g ca (va_A (lm_ws g ca L Z) sz)) (va_A (lm_ws g ca L Z) sz)) 0 0 := by
  refine lm_entry (by decide) (Nat.le_of_ble_eq_true rfl) (fun p e s m args below meth c A eA hA hG C hK => ?_)
  rw [eA]
  unfold lw_X2_settle at h
  show gx_W p l e (headSpec (ws_ yX2_settle cX2_settle 5 none) rmX2_settle).room s m args below meth c 5 (lm_I D t0 g ca A s L []) 0 0 (MQ below (va_Qv Q (lm_B D t0 g ca A) A) args s 0 0 A) 0 [(0, .ref (g 0))] []
  refine gx_aload_n C dX2_settle_0 rfl 0 rfl ?_
  refine gw_get C hK in_X2 rfl ll_H0 5 (by decide) q240 rfl rfl dX2_settle_1 ?_
  refine al_rsize (n := 0) C hK ll_ol (cwV 0 C.t (lw_V q360 q361 q362 q123 q363) rfl rfl rfl ⟨rfl, dmJ2_size⟩ ⟨Nat.le_of_ble_eq_true rfl, Nat.le_of_ble_eq_true rfl⟩) (Nat.le_of_ble_eq_true rfl) ⟨Nat.zero_le _, Nat.zero_le _⟩ dX2_settle_4 ?_
  refine gx_istore_n (lv' := [(1, .int (nI (ls_ow L).length)), (0, .ref (g 0))]) C dX2_settle_7 rfl (by decide) rfl ?_
  refine gx_iconst (v := 0) C dX2_settle_8 (by decide) ?_
  refine gx_istore_n (lv' := [(2, .int 0), (1, .int (nI (ls_ow L).length)), (0, .ref (g 0))]) C dX2_settle_9 rfl (by decide) rfl ?_
  refine gx_sub [2, 1, 0] rfl ?_
  obtain ⟨n, h⟩ := h
  exact le_X2_settle_10 C hK hG hA n L (nI (ls_ow L).length) 0 h
/-! Land.leave(LOwlYears$Owl;)V -/
abbrev rmX2_leave : Room := { frames := 4, cells := 0, slots := 0, locals := 85 }
theorem dmX2_leave : yX2_leave.cls ≠ "java/lang/invoke/MethodHandle" ∧ yX2_leave.cls ≠ "java/lang/invoke/VarHandle" ∧ (parseMethodDescriptor yX2_leave.desc).map (fun d => d.parameters.length) = some 1 := by decide +kernel
def lj_X2_leave_25 (L : LSt) (a1 : Nat) (Q : LSt → Prop) : Prop :=
  (a1 ∈ ls_ow L ∧ (∀ L27 : LSt, L27 = ls_o L 5 a1 (-1) → (a1 ∈ ls_ow L27 ∧ (∀ L32 : LSt, L32 = ls_o L27 6 a1 0 → (∀ L42 : LSt, L42 = ls_s L32 12 ((L32.1 12) - 1) → Q L42)))))
theorem lb_X2_leave_25 {l : Launch} {p : Program} {e : Env} {s : State} {m : MethodId} {args : Array Value} {below : List Frame} {meth : Method} {c : Code} {D : va_G} {t0 : Nat} {g : Nat → Nat} {ca : Nat → ClassId} {A : Nat → Prop} (C : gx_C p s m args meth c cX2_leave 2 none RX2) (hK : gK D ca s) (hG : gZ t0 A s) (hA : ∀ q, s.heap.size ≤ q → A q) {L : LSt} {a1 : Nat} {Q : LSt → Prop} (h : lj_X2_leave_25 L a1 Q)  : gx_W p l e (headSpec (ws_ yX2_leave cX2_leave 2 none) rmX2_leave).room s m args below meth c 2 (lm_I D t0 g ca A s L []) 0 0 (MQ below (va_Qv Q (lm_B D t0 g ca A) A) args s 0 0 A) 25 [(0, .ref (g 0)), (1, .ref a1)] [] := by
  unfold lj_X2_leave_25 at h
  refine gx_aload_n C dX2_leave_25 rfl 1 rfl ?_
  refine gx_iconst (v := (-1)) C dX2_leave_26 (by decide) ?_
  obtain ⟨m27, h⟩ := h
  refine gw_putN C hK in_X6 tyX6 tyX6_ok nmX6 rfl 5 (by decide) q1238 rfl rfl (fs := lo_fs L a1) (ty := .int) rfl rfl rfl (show 5 < 7 by decide) (ll_Uo5 _ m27) dX2_leave_27 ?_
  refine lm_name (fun L27 e_L27 => ?_)
  replace h := h L27 e_L27
  refine gx_aload_n C dX2_leave_30 rfl 1 rfl ?_
  refine gx_iconst (v := 0) C dX2_leave_31 (by decide) ?_
  obtain ⟨m32, h⟩ := h
  refine gw_putN C hK in_X6 tyX6 tyX6_ok nmX6 rfl 6 (by decide) q1242 rfl rfl (fs := lo_fs L27 a1) (ty := .boolean) rfl rfl rfl (show 6 < 7 by decide) (ll_Uo6 _ m32) dX2_leave_32 ?_
  refine lm_name (fun L32 e_L32 => ?_)
  replace h := h L32 e_L32
  refine gx_aload_n C dX2_leave_35 rfl 0 rfl ?_
  refine gx_dup C dX2_leave_36 rfl ?_
  refine gw_get C hK in_X2 rfl ll_H0 12 (by decide) q254 rfl rfl dX2_leave_37 ?_
  refine gx_iconst (v := 1) C dX2_leave_40 (by decide) ?_
  refine gx_isub C dX2_leave_41 ?_
  refine gw_put C hK in_X2 tyX2 tyX2_ok nmX2 rfl 12 (by decide) q254 rfl rfl (fs := ls_fs g L32) (ty := .int) rfl rfl rfl (show 12 < 18 by decide) (ll_Us12 _) dX2_leave_42 ?_
  refine lm_name (fun L42 e_L42 => ?_)
  replace h := h L42 e_L42
  exact lm_vret C h (Nat.le_refl _) (Nat.le_refl _) dX2_leave_45
def lw_X2_leave (L : LSt) (a1 : Nat) (Q : LSt → Prop) : Prop :=
  (a1 ∈ ls_ow L ∧ (((ls_of L 5 a1) = (-1) → lj_X2_leave_25 L a1 Q) ∧ (¬ (ls_of L 5 a1) = (-1) → lw_X2_box L (ls_of L 5 a1) (fun r13 L13 => (∃ o16 : Nat, r13 = some o16 ∧ (o16 ∈ ls_bx L13 ∧ (a1 ∈ ls_ow L13 ∧ (vp_in (ls_of L13 1 a1) 2 ∧ (∀ L24 : LSt, L24 = ls_b L13 o16 (ls_of L13 1 a1) (-1) → lj_X2_leave_25 L24 a1 Q)))))))))
theorem lk_X2_leave {l : Launch} {D : va_G} {t0 : Nat} {g : Nat → Nat} {ca : Nat → ClassId} {Z : va_W} {sz : Nat} {L : LSt} {a1 : Nat} {Q : LSt → Prop} (h : lw_X2_leave L a1 Q) : lm_Met l yX2_leave cX2_leave 2 none rmX2_leave [.ref a1] D t0 g ca Z sz L (va_Qv Q (lm_B D t0 g ca (va_A (lm_ws g ca L Z) sz)) (va_A (lm_ws g ca L Z) sz)) 0 0 := by
  refine lm_entry (by decide) (Nat.le_of_ble_eq_true rfl) (fun p e s m args below meth c A eA hA hG C hK => ?_)
  rw [eA]
  unfold lw_X2_leave at h
  show gx_W p l e (headSpec (ws_ yX2_leave cX2_leave 2 none) rmX2_leave).room s m args below meth c 2 (lm_I D t0 g ca A s L []) 0 0 (MQ below (va_Qv Q (lm_B D t0 g ca A) A) args s 0 0 A) 0 [(0, .ref (g 0)), (1, .ref a1)] []
  refine gx_aload_n C dX2_leave_0 rfl 1 rfl ?_
  obtain ⟨m1, h⟩ := h
  refine gw_getN C hK in_X6 rfl (ll_Ho m1) 5 (by decide) q1238 rfl rfl dX2_leave_1 ?_
  refine gx_iconst (v := (-1)) C dX2_leave_4 (by decide) ?_
  refine gx_icmp_eq (tgt := 25) C dX2_leave_5 (by decide) (fun z => ?_) (fun z => ?_)
  · replace h := h.1 z
    exact lb_X2_leave_25 C hK hG hA h
  · replace h := h.2 z
    refine gx_aload_n C dX2_leave_8 rfl 0 rfl ?_
    refine gx_aload_n C dX2_leave_9 rfl 1 rfl ?_
    refine gw_getN C hK in_X6 rfl (ll_Ho m1) 5 (by decide) q1238 rfl rfl dX2_leave_10 ?_
    refine lm_callq (rest := []) C hK hG hA (fun Z sz => lk_X2_box h) (cwV 1 C.t (lw_V q1488 q1489 q1490 q120 q1491) rfl rfl rfl ⟨rfl, dmX2_box⟩ ⟨Nat.le_of_ble_eq_true rfl, Nat.le_of_ble_eq_true rfl⟩) rfl rfl (Nat.le_of_ble_eq_true rfl) ⟨Nat.zero_le _, Nat.zero_le _⟩ dX2_leave_13 (fun r13 L13 h => ?_)
    obtain ⟨o16, e_o16, h⟩ := h
    have hh := h; subst e_o16; have h := hh; clear hh
    obtain ⟨m16, h⟩ := h
    refine gw_getN C hK in_X5 rfl (ll_Hb m16) 1 (by decide) q393 rfl rfl dX2_leave_16 ?_
    refine gx_aload_n C dX2_leave_19 rfl 1 rfl ?_
    obtain ⟨m20, h⟩ := h
    refine gw_getN C hK in_X6 rfl (ll_Ho m20) 1 (by decide) q1228 rfl rfl dX2_leave_20 ?_
    refine gx_iconst (v := (-1)) C dX2_leave_23 (by decide) ?_
    obtain ⟨g24, h⟩ := h
    refine gw_iast C hK (ll_Ub _ _ m16) g24 dX2_leave_24 ?_
    refine lm_name (fun L24 e_L24 => ?_)
    replace h := h L24 e_L24
    exact lb_X2_leave_25 C hK hG hA h
/-! Land.die(LOwlYears$Owl;I)V -/
abbrev rmX2_die : Room := { frames := 5, cells := 0, slots := 0, locals := 106 }
theorem dmX2_die : yX2_die.cls ≠ "java/lang/invoke/MethodHandle" ∧ yX2_die.cls ≠ "java/lang/invoke/VarHandle" ∧ (parseMethodDescriptor yX2_die.desc).map (fun d => d.parameters.length) = some 2 := by decide +kernel
def lj_X2_die_18 (L : LSt) (a1 : Nat) (a2 : Int32) (a3 : Int32) (k18 : LSt → Nat → Int32 → Int32 → Prop) (Q : LSt → Prop) : Prop :=
  ((a3 ≤ 2 → (a1 ∈ ls_ow L ∧ (vp_in 0 60 ∧ (∀ L52 : LSt, L52 = ls_a L 3 0 (ls_of L 0 a1) → (vp_in 1 60 ∧ (∀ L59 : LSt, L59 = ls_a L52 3 1 a2 → (vp_in 2 60 ∧ (∀ L69 : LSt, L69 = ls_a L59 3 2 (L59.1 9) → (∀ L82 : LSt, L82 = ls_s L69 8 (if 20 < ((L69.1 8) + 1) then 20 else ((L69.1 8) + 1)) → Q L82))))))))) ∧ (¬ (a3 ≤ 2) → (vp_in (a3 - 3) 60 ∧ (vp_in a3 60 ∧ (∀ L36 : LSt, L36 = ls_a L 3 a3 (ls_r L 3 (a3 - 3)) → k18 L36 a1 a2 (a3 + (-1)))))))
theorem lb_X2_die_18 {l : Launch} {p : Program} {e : Env} {s : State} {m : MethodId} {args : Array Value} {below : List Frame} {meth : Method} {c : Code} {D : va_G} {t0 : Nat} {g : Nat → Nat} {ca : Nat → ClassId} {A : Nat → Prop} (C : gx_C p s m args meth c cX2_die 4 none RX2) (hK : gK D ca s) (hG : gZ t0 A s) (hA : ∀ q, s.heap.size ≤ q → A q) {L : LSt} {a1 : Nat} {a2 : Int32} {a3 : Int32} {k18 : LSt → Nat → Int32 → Int32 → Prop} {Q : LSt → Prop} (h : lj_X2_die_18 L a1 a2 a3 k18 Q) (hk18 : ∀ (L : LSt) (a1 : Nat) (a2 : Int32) (a3 : Int32), k18 L a1 a2 a3 → gx_W p l e (headSpec (ws_ yX2_die cX2_die 4 none) rmX2_die).room s m args below meth c 4 (lm_I D t0 g ca A s L []) 0 0 (MQ below (va_Qv Q (lm_B D t0 g ca A) A) args s 0 0 A) 18 [(0, .ref (g 0)), (1, .ref a1), (2, .int a2), (3, .int a3)] []) : gx_W p l e (headSpec (ws_ yX2_die cX2_die 4 none) rmX2_die).room s m args below meth c 4 (lm_I D t0 g ca A s L []) 0 0 (MQ below (va_Qv Q (lm_B D t0 g ca A) A) args s 0 0 A) 18 [(0, .ref (g 0)), (1, .ref a1), (2, .int a2), (3, .int a3)] [] := by
  unfold lj_X2_die_18 at h
  refine gx_iload_n C dX2_die_18 rfl 3 rfl ?_
  refine gx_iconst (v := 2) C dX2_die_19 (by decide) ?_
  refine gx_icmp_le (tgt := 43) C dX2_die_20 (by decide) (fun z => ?_) (fun z => ?_)
  · replace h := h.1 z
    refine gx_aload_n C dX2_die_43 rfl 0 rfl ?_
    refine gw_get C hK in_X2 rfl ll_H0 6 (by decide) q242 rfl rfl dX2_die_44 ?_
    refine gx_iconst (v := 0) C dX2_die_47 (by decide) ?_
    refine gx_aload_n C dX2_die_48 rfl 1 rfl ?_
    obtain ⟨m49, h⟩ := h
    refine gw_getN C hK in_X6 rfl (ll_Ho m49) 0 (by decide) q1225 rfl rfl dX2_die_49 ?_
    obtain ⟨g52, h⟩ := h
    refine gw_iast C hK (ll_Ua3 _ _) g52 dX2_die_52 ?_
    refine lm_name (fun L52 e_L52 => ?_)
    replace h := h L52 e_L52
    refine gx_aload_n C dX2_die_53 rfl 0 rfl ?_
    refine gw_get C hK in_X2 rfl ll_H0 6 (by decide) q242 rfl rfl dX2_die_54 ?_
    refine gx_iconst (v := 1) C dX2_die_57 (by decide) ?_
    refine gx_iload_n C dX2_die_58 rfl 2 rfl ?_
    obtain ⟨g59, h⟩ := h
    refine gw_iast C hK (ll_Ua3 _ _) g59 dX2_die_59 ?_
    refine lm_name (fun L59 e_L59 => ?_)
    replace h := h L59 e_L59
    refine gx_aload_n C dX2_die_60 rfl 0 rfl ?_
    refine gw_get C hK in_X2 rfl ll_H0 6 (by decide) q242 rfl rfl dX2_die_61 ?_
    refine gx_iconst (v := 2) C dX2_die_64 (by decide) ?_
    refine gx_aload_n C dX2_die_65 rfl 0 rfl ?_
    refine gw_get C hK in_X2 rfl ll_H0 9 (by decide) q248 rfl rfl dX2_die_66 ?_
    obtain ⟨g69, h⟩ := h
    refine gw_iast C hK (ll_Ua3 _ _) g69 dX2_die_69 ?_
    refine lm_name (fun L69 e_L69 => ?_)
    replace h := h L69 e_L69
    refine gx_aload_n C dX2_die_70 rfl 0 rfl ?_
    refine gx_aload_n C dX2_die_71 rfl 0 rfl ?_
    refine gw_get C hK in_X2 rfl ll_H0 8 (by decide) q246 rfl rfl dX2_die_72 ?_
    refine gx_iconst (v := 1) C dX2_die_75 (by decide) ?_
    refine gx_iadd C dX2_die_76 ?_
    refine gx_bipush (v := 20) C dX2_die_77 (by decide) ?_
    refine gx_mmin (rest := [.ref (g 0)]) C q1466 q470 q140 q471 (Nat.le_of_ble_eq_true rfl) (Nat.le_of_ble_eq_true rfl) ⟨Nat.zero_le _, Nat.zero_le _⟩ dX2_die_79 ?_
    refine gw_put C hK in_X2 tyX2 tyX2_ok nmX2 rfl 8 (by decide) q246 rfl rfl (fs := ls_fs g L69) (ty := .int) rfl rfl rfl (show 8 < 18 by decide) (ll_Us8 _) dX2_die_82 ?_
    refine lm_name (fun L82 e_L82 => ?_)
    replace h := h L82 e_L82
    exact lm_vret C h (Nat.le_refl _) (Nat.le_refl _) dX2_die_85
  · replace h := h.2 z
    refine gx_aload_n C dX2_die_23 rfl 0 rfl ?_
    refine gw_get C hK in_X2 rfl ll_H0 6 (by decide) q242 rfl rfl dX2_die_24 ?_
    refine gx_iload_n C dX2_die_27 rfl 3 rfl ?_
    refine gx_aload_n C dX2_die_28 rfl 0 rfl ?_
    refine gw_get C hK in_X2 rfl ll_H0 6 (by decide) q242 rfl rfl dX2_die_29 ?_
    refine gx_iload_n C dX2_die_32 rfl 3 rfl ?_
    refine gx_iconst (v := 3) C dX2_die_33 (by decide) ?_
    refine gx_isub C dX2_die_34 ?_
    obtain ⟨g35, h⟩ := h
    refine gw_iald C hK ll_Ha3 g35 dX2_die_35 ?_
    obtain ⟨g36, h⟩ := h
    refine gw_iast C hK (ll_Ua3 _ _) g36 dX2_die_36 ?_
    refine lm_name (fun L36 e_L36 => ?_)
    replace h := h L36 e_L36
    refine gx_iinc (v := a3 + (-1)) (k := 3) (lv' := [(3, .int (a3 + (-1))), (0, .ref (g 0)), (1, .ref a1), (2, .int a2)]) C dX2_die_37 rfl rfl (by decide) rfl ?_
    refine gx_goto (tgt := 18) C dX2_die_40 (by decide) ?_
    refine gx_sub [1, 2, 3, 0] rfl ?_
    exact hk18 L36 a1 a2 (a3 + (-1)) h
def ll_X2_die_18 (Q : LSt → Prop) : Nat → LSt → Nat → Int32 → Int32 → Prop
  | 0, _, _, _, _ => False
  | n + 1, L, a1, a2, a3 => lj_X2_die_18 L a1 a2 a3 (fun L a1 a2 a3 => ll_X2_die_18 Q n L a1 a2 a3) Q
theorem le_X2_die_18 {l : Launch} {p : Program} {e : Env} {s : State} {m : MethodId} {args : Array Value} {below : List Frame} {meth : Method} {c : Code} {D : va_G} {t0 : Nat} {g : Nat → Nat} {ca : Nat → ClassId} {A : Nat → Prop} (C : gx_C p s m args meth c cX2_die 4 none RX2) (hK : gK D ca s) (hG : gZ t0 A s) (hA : ∀ q, s.heap.size ≤ q → A q) {Q : LSt → Prop}  (n : Nat) : ∀ (L : LSt) (a1 : Nat) (a2 : Int32) (a3 : Int32), ll_X2_die_18 Q n L a1 a2 a3 → gx_W p l e (headSpec (ws_ yX2_die cX2_die 4 none) rmX2_die).room s m args below meth c 4 (lm_I D t0 g ca A s L []) 0 0 (MQ below (va_Qv Q (lm_B D t0 g ca A) A) args s 0 0 A) 18 [(0, .ref (g 0)), (1, .ref a1), (2, .int a2), (3, .int a3)] [] := by
  induction n with
  | zero => intro L a1 a2 a3 h; exact False.elim h
  | succ n ih => intro L a1 a2 a3 h; exact lb_X2_die_18 C hK hG hA (show lj_X2_die_18 L a1 a2 a3 (fun L a1 a2 a3 => ll_X2_die_18 Q n L a1 a2 a3) Q from h) (fun L a1 a2 a3 h => ih L a1 a2 a3 h)
def lw_X2_die (L : LSt) (a1 : Nat) (a2 : Int32) (Q : LSt → Prop) : Prop :=
  lw_X2_leave L a1 (fun L2 => (vp_in a2 4 ∧ (vp_in a2 4 ∧ (∀ L14 : LSt, L14 = ls_a L2 4 a2 ((ls_r L2 4 a2) + 1) → ∃ n : Nat, ll_X2_die_18 Q n L14 a1 a2 59))))
theorem lk_X2_die {l : Launch} {D : va_G} {t0 : Nat} {g : Nat → Nat} {ca : Nat → ClassId} {Z : va_W} {sz : Nat} {L : LSt} {a1 : Nat} {a2 : Int32} {Q : LSt → Prop} (h : lw_X2_die L a1 a2 Q) : lm_Met l yX2_die cX2_die 4 none rmX2_die [.ref a1, .int a2] D t0 g ca Z sz L (va_Qv Q (lm_B D t0 g ca (va_A (lm_ws g ca L Z) sz)) (va_A (lm_ws g ca L Z) sz)) 0 0 := by
  refine lm_entry (by decide) (Nat.le_of_ble_eq_true rfl) (fun p e s m args below meth c A eA hA hG C hK => ?_)
  rw [eA]
  unfold lw_X2_die at h
  show gx_W p l e (headSpec (ws_ yX2_die cX2_die 4 none) rmX2_die).room s m args below meth c 4 (lm_I D t0 g ca A s L []) 0 0 (MQ below (va_Qv Q (lm_B D t0 g ca A) A) args s 0 0 A) 0 [(0, .ref (g 0)), (1, .ref a1), (2, .int a2)] []
  refine gx_aload_n C dX2_die_0 rfl 0 rfl ?_
  refine gx_aload_n C dX2_die_1 rfl 1 rfl ?_
  refine lm_callv (rest := []) C hK hG hA (fun Z sz => lk_X2_leave h) (cwV 1 C.t (lw_V q1484 q1486 qs15 q120 q1487) rfl rfl rfl ⟨rfl, dmX2_leave⟩ ⟨Nat.le_of_ble_eq_true rfl, Nat.le_of_ble_eq_true rfl⟩) rfl rfl (Nat.le_of_ble_eq_true rfl) ⟨Nat.zero_le _, Nat.zero_le _⟩ dX2_die_2 (fun L2 h => ?_)
  refine gx_aload_n C dX2_die_5 rfl 0 rfl ?_
  refine gw_get C hK in_X2 rfl ll_H0 7 (by decide) q244 rfl rfl dX2_die_6 ?_
  refine gx_iload_n C dX2_die_9 rfl 2 rfl ?_
  refine gx_dup2_11 C dX2_die_10 rfl rfl ?_
  obtain ⟨g11, h⟩ := h
  refine gw_iald C hK ll_Ha4 g11 dX2_die_11 ?_
  refine gx_iconst (v := 1) C dX2_die_12 (by decide) ?_
  refine gx_iadd C dX2_die_13 ?_
  obtain ⟨g14, h⟩ := h
  refine gw_iast C hK (ll_Ua4 _ _) g14 dX2_die_14 ?_
  refine lm_name (fun L14 e_L14 => ?_)
  replace h := h L14 e_L14
  refine gx_bipush (v := 59) C dX2_die_15 (by decide) ?_
  refine gx_istore_n (lv' := [(3, .int 59), (0, .ref (g 0)), (1, .ref a1), (2, .int a2)]) C dX2_die_17 rfl (by decide) rfl ?_
  refine gx_sub [1, 2, 3, 0] rfl ?_
  obtain ⟨n, h⟩ := h
  exact le_X2_die_18 C hK hG hA n L14 a1 a2 59 h
/-! Land.starve(LOwlYears$Box;I)V -/
abbrev rmX2_starve : Room := { frames := 6, cells := 0, slots := 0, locals := 129 }
theorem dmX2_starve : yX2_starve.cls ≠ "java/lang/invoke/MethodHandle" ∧ yX2_starve.cls ≠ "java/lang/invoke/VarHandle" ∧ (parseMethodDescriptor yX2_starve.desc).map (fun d => d.parameters.length) = some 2 := by decide +kernel
def lj_X2_starve_81 (L : LSt) (Q : LSt → Prop) : Prop :=
  Q L
theorem lb_X2_starve_81 {l : Launch} {p : Program} {e : Env} {s : State} {m : MethodId} {args : Array Value} {below : List Frame} {meth : Method} {c : Code} {D : va_G} {t0 : Nat} {g : Nat → Nat} {ca : Nat → ClassId} {A : Nat → Prop} (C : gx_C p s m args meth c cX2_starve 5 none RX2) (hK : gK D ca s) (hG : gZ t0 A s) (hA : ∀ q, s.heap.size ≤ q → A q) {L : LSt} {Q : LSt → Prop} (h : lj_X2_starve_81 L Q)  : gx_W p l e (headSpec (ws_ yX2_starve cX2_starve 5 none) rmX2_starve).room s m args below meth c 5 (lm_I D t0 g ca A s L []) 0 0 (MQ below (va_Qv Q (lm_B D t0 g ca A) A) args s 0 0 A) 81 [] [] := by
  unfold lj_X2_starve_81 at h
  exact lm_vret C h (Nat.le_refl _) (Nat.le_refl _) dX2_starve_81
def lj_X2_starve_51 (L : LSt) (a1 : Nat) (a3 : Int32) (k8 : LSt → Nat → Int32 → Prop) (Q : LSt → Prop) : Prop :=
  k8 L a1 (a3 + 1)
theorem lb_X2_starve_51 {l : Launch} {p : Program} {e : Env} {s : State} {m : MethodId} {args : Array Value} {below : List Frame} {meth : Method} {c : Code} {D : va_G} {t0 : Nat} {g : Nat → Nat} {ca : Nat → ClassId} {A : Nat → Prop} (C : gx_C p s m args meth c cX2_starve 5 none RX2) (hK : gK D ca s) (hG : gZ t0 A s) (hA : ∀ q, s.heap.size ≤ q → A q) {L : LSt} {a1 : Nat} {a3 : Int32} {k8 : LSt → Nat → Int32 → Prop} {Q : LSt → Prop} (h : lj_X2_starve_51 L a1 a3 k8 Q) (hk8 : ∀ (L : LSt) (a1 : Nat) (a3 : Int32), k8 L a1 a3 → gx_W p l e (headSpec (ws_ yX2_starve cX2_starve 5 none) rmX2_starve).room s m args below meth c 5 (lm_I D t0 g ca A s L []) 0 0 (MQ below (va_Qv Q (lm_B D t0 g ca A) A) args s 0 0 A) 8 [(0, .ref (g 0)), (1, .ref a1), (3, .int a3)] []) : gx_W p l e (headSpec (ws_ yX2_starve cX2_starve 5 none) rmX2_starve).room s m args below meth c 5 (lm_I D t0 g ca A s L []) 0 0 (MQ below (va_Qv Q (lm_B D t0 g ca A) A) args s 0 0 A) 51 [(0, .ref (g 0)), (1, .ref a1), (3, .int a3)] [] := by
  unfold lj_X2_starve_51 at h
  refine gx_iinc (v := a3 + 1) (k := 2) (lv' := [(3, .int (a3 + 1)), (0, .ref (g 0)), (1, .ref a1)]) C dX2_starve_51 rfl rfl (by decide) rfl ?_
  refine gx_goto (tgt := 8) C dX2_starve_54 (by decide) ?_
  refine gx_sub [1, 2, 0] rfl ?_
  exact hk8 L a1 (a3 + 1) h
def lj_X2_starve_37 (L : LSt) (a1 : Nat) (a3 : Int32) (s0 : Option Nat) (k8 : LSt → Nat → Int32 → Prop) (Q : LSt → Prop) : Prop :=
  ((s0 = none → lj_X2_starve_51 L a1 a3 k8 Q) ∧ (∀ o41, s0 = some o41 → lw_X2_die L o41 0 (fun L48 => lj_X2_starve_51 L48 a1 a3 k8 Q)))
theorem lb_X2_starve_37 {l : Launch} {p : Program} {e : Env} {s : State} {m : MethodId} {args : Array Value} {below : List Frame} {meth : Method} {c : Code} {D : va_G} {t0 : Nat} {g : Nat → Nat} {ca : Nat → ClassId} {A : Nat → Prop} (C : gx_C p s m args meth c cX2_starve 5 none RX2) (hK : gK D ca s) (hG : gZ t0 A s) (hA : ∀ q, s.heap.size ≤ q → A q) {L : LSt} {a1 : Nat} {a3 : Int32} {s0 : Option Nat} {k8 : LSt → Nat → Int32 → Prop} {Q : LSt → Prop} (h : lj_X2_starve_37 L a1 a3 s0 k8 Q) (hk8 : ∀ (L : LSt) (a1 : Nat) (a3 : Int32), k8 L a1 a3 → gx_W p l e (headSpec (ws_ yX2_starve cX2_starve 5 none) rmX2_starve).room s m args below meth c 5 (lm_I D t0 g ca A s L []) 0 0 (MQ below (va_Qv Q (lm_B D t0 g ca A) A) args s 0 0 A) 8 [(0, .ref (g 0)), (1, .ref a1), (3, .int a3)] []) : gx_W p l e (headSpec (ws_ yX2_starve cX2_starve 5 none) rmX2_starve).room s m args below meth c 5 (lm_I D t0 g ca A s L []) 0 0 (MQ below (va_Qv Q (lm_B D t0 g ca A) A) args s 0 0 A) 37 [(0, .ref (g 0)), (1, .ref a1), (3, .int a3)] [va_rf s0] := by
  unfold lj_X2_starve_37 at h
  refine gx_astore_q (lv' := [(4, va_rf s0), (0, .ref (g 0)), (1, .ref a1), (3, .int a3)]) C dX2_starve_37 (by decide) rfl ?_
  refine gx_aload_q C dX2_starve_39 0 rfl ?_
  refine gx_ifnull_q (tgt := 51) C dX2_starve_41 (by decide) (fun z => ?_) (fun o41 z => ?_)
  · replace h := h.1 z
    refine gx_sub [1, 2, 3] rfl ?_
    exact lb_X2_starve_51 C hK hG hA h hk8
  · replace h := h.2 o41 z
    have hh := h; subst z; have h := hh; clear hh
    refine gx_aload_n C dX2_starve_44 rfl 1 rfl ?_
    refine gx_aload C dX2_starve_45 0 rfl ?_
    refine gx_iconst (v := 0) C dX2_starve_47 (by decide) ?_
    refine lm_callv (rest := []) C hK hG hA (fun Z sz => lk_X2_die h) (cwV 2 C.t (lw_V q1480 q1482 qs14 q120 q1483) rfl rfl rfl ⟨rfl, dmX2_die⟩ ⟨Nat.le_of_ble_eq_true rfl, Nat.le_of_ble_eq_true rfl⟩) rfl rfl (Nat.le_of_ble_eq_true rfl) ⟨Nat.zero_le _, Nat.zero_le _⟩ dX2_starve_48 (fun L48 h => ?_)
    refine gx_sub [1, 2, 3] rfl ?_
    exact lb_X2_starve_51 C hK hG hA h hk8
def lj_X2_starve_8 (L : LSt) (a1 : Nat) (a3 : Int32) (k8 : LSt → Nat → Int32 → Prop) (Q : LSt → Prop) : Prop :=
  ((1 < a3 → lj_X2_starve_81 L Q) ∧ (¬ (1 < a3) → (a1 ∈ ls_bx L ∧ (vp_in a3 2 ∧ (((ls_br L a1 a3.toNatClampNeg) = (-1) → lj_X2_starve_37 L a1 a3 none k8 Q) ∧ (¬ (ls_br L a1 a3.toNatClampNeg) = (-1) → (vp_in a3 2 ∧ lw_X2_known L (ls_br L a1 a3.toNatClampNeg) (fun r34 L34 => lj_X2_starve_37 L34 a1 a3 r34 k8 Q))))))))
theorem lb_X2_starve_8 {l : Launch} {p : Program} {e : Env} {s : State} {m : MethodId} {args : Array Value} {below : List Frame} {meth : Method} {c : Code} {D : va_G} {t0 : Nat} {g : Nat → Nat} {ca : Nat → ClassId} {A : Nat → Prop} (C : gx_C p s m args meth c cX2_starve 5 none RX2) (hK : gK D ca s) (hG : gZ t0 A s) (hA : ∀ q, s.heap.size ≤ q → A q) {L : LSt} {a1 : Nat} {a3 : Int32} {k8 : LSt → Nat → Int32 → Prop} {Q : LSt → Prop} (h : lj_X2_starve_8 L a1 a3 k8 Q) (hk8 : ∀ (L : LSt) (a1 : Nat) (a3 : Int32), k8 L a1 a3 → gx_W p l e (headSpec (ws_ yX2_starve cX2_starve 5 none) rmX2_starve).room s m args below meth c 5 (lm_I D t0 g ca A s L []) 0 0 (MQ below (va_Qv Q (lm_B D t0 g ca A) A) args s 0 0 A) 8 [(0, .ref (g 0)), (1, .ref a1), (3, .int a3)] []) : gx_W p l e (headSpec (ws_ yX2_starve cX2_starve 5 none) rmX2_starve).room s m args below meth c 5 (lm_I D t0 g ca A s L []) 0 0 (MQ below (va_Qv Q (lm_B D t0 g ca A) A) args s 0 0 A) 8 [(0, .ref (g 0)), (1, .ref a1), (3, .int a3)] [] := by
  unfold lj_X2_starve_8 at h
  refine gx_iload_n C dX2_starve_8 rfl 2 rfl ?_
  refine gx_iconst (v := 1) C dX2_starve_9 (by decide) ?_
  refine gx_icmp_gt (tgt := 57) C dX2_starve_10 (by decide) (fun z => ?_) (fun z => ?_)
  · replace h := h.1 z
    refine gx_goto (tgt := 81) C dX2_starve_57 (by decide) ?_
    refine gx_sub [] rfl ?_
    exact lb_X2_starve_81 C hK hG hA h
  · replace h := h.2 z
    refine gx_aload_n C dX2_starve_13 rfl 1 rfl ?_
    obtain ⟨m14, h⟩ := h
    refine gw_getN C hK in_X5 rfl (ll_Hb m14) 1 (by decide) q393 rfl rfl dX2_starve_14 ?_
    refine gx_iload_n C dX2_starve_17 rfl 2 rfl ?_
    obtain ⟨g18, h⟩ := h
    refine gw_iald C hK (ll_Hr m14) g18 dX2_starve_18 ?_
    refine gx_iconst (v := (-1)) C dX2_starve_19 (by decide) ?_
    refine gx_icmp_ne (tgt := 27) C dX2_starve_20 (by decide) (fun z => ?_) (fun z => ?_)
    · replace h := h.2 z
      refine gx_aload_n C dX2_starve_27 rfl 0 rfl ?_
      refine gx_aload_n C dX2_starve_28 rfl 1 rfl ?_
      refine gw_getN C hK in_X5 rfl (ll_Hb m14) 1 (by decide) q393 rfl rfl dX2_starve_29 ?_
      refine gx_iload_n C dX2_starve_32 rfl 2 rfl ?_
      obtain ⟨g33, h⟩ := h
      refine gw_iald C hK (ll_Hr m14) g33 dX2_starve_33 ?_
      refine lm_callq (rest := []) C hK hG hA (fun Z sz => lk_X2_known h) (cwV 1 C.t (lw_V q1479 q1316 q1317 q120 q1318) rfl rfl rfl ⟨rfl, dmX2_known⟩ ⟨Nat.le_of_ble_eq_true rfl, Nat.le_of_ble_eq_true rfl⟩) rfl rfl (Nat.le_of_ble_eq_true rfl) ⟨Nat.zero_le _, Nat.zero_le _⟩ dX2_starve_34 (fun r34 L34 h => ?_)
      exact lb_X2_starve_37 (s0 := r34) C hK hG hA h hk8
    · replace h := h.1 z
      refine gx_null C dX2_starve_23 ?_
      refine gx_goto (tgt := 37) C dX2_starve_24 (by decide) ?_
      exact lb_X2_starve_37 (s0 := none) C hK hG hA h hk8
def ll_X2_starve_8 (Q : LSt → Prop) : Nat → LSt → Nat → Int32 → Prop
  | 0, _, _, _ => False
  | n + 1, L, a1, a3 => lj_X2_starve_8 L a1 a3 (fun L a1 a3 => ll_X2_starve_8 Q n L a1 a3) Q
theorem le_X2_starve_8 {l : Launch} {p : Program} {e : Env} {s : State} {m : MethodId} {args : Array Value} {below : List Frame} {meth : Method} {c : Code} {D : va_G} {t0 : Nat} {g : Nat → Nat} {ca : Nat → ClassId} {A : Nat → Prop} (C : gx_C p s m args meth c cX2_starve 5 none RX2) (hK : gK D ca s) (hG : gZ t0 A s) (hA : ∀ q, s.heap.size ≤ q → A q) {Q : LSt → Prop}  (n : Nat) : ∀ (L : LSt) (a1 : Nat) (a3 : Int32), ll_X2_starve_8 Q n L a1 a3 → gx_W p l e (headSpec (ws_ yX2_starve cX2_starve 5 none) rmX2_starve).room s m args below meth c 5 (lm_I D t0 g ca A s L []) 0 0 (MQ below (va_Qv Q (lm_B D t0 g ca A) A) args s 0 0 A) 8 [(0, .ref (g 0)), (1, .ref a1), (3, .int a3)] [] := by
  induction n with
  | zero => intro L a1 a3 h; exact False.elim h
  | succ n ih => intro L a1 a3 h; exact lb_X2_starve_8 C hK hG hA (show lj_X2_starve_8 L a1 a3 (fun L a1 a3 => ll_X2_starve_8 Q n L a1 a3) Q from h) (fun L a1 a3 h => ih L a1 a3 h)
def lw_X2_starve (L : LSt) (a1 : Nat) (a2 : Int32) (Q : LSt → Prop) : Prop :=
  ((60 ≤ a2 → (a1 ∈ ls_bx L ∧ rw_X5_size (ls_br L a1) (fun r64 => (((60 * r64) ≤ a2 → lj_X2_starve_81 L Q) ∧ (¬ (60 * r64) ≤ a2 → lw_X2_younger L a1 (fun r74 L74 => (∃ o78 : Nat, r74 = some o78 ∧ lw_X2_die L74 o78 0 (fun L78 => lj_X2_starve_81 L78 Q)))))))) ∧ (¬ (60 ≤ a2) → ∃ n : Nat, ll_X2_starve_8 Q n L a1 0))
theorem lk_X2_starve {l : Launch} {D : va_G} {t0 : Nat} {g : Nat → Nat} {ca : Nat → ClassId} {Z : va_W} {sz : Nat} {L : LSt} {a1 : Nat} {a2 : Int32} {Q : LSt → Prop} (h : lw_X2_starve L a1 a2 Q) : lm_Met l yX2_starve cX2_starve 5 none rmX2_starve [.ref a1, .int a2] D t0 g ca Z sz L (va_Qv Q (lm_B D t0 g ca (va_A (lm_ws g ca L Z) sz)) (va_A (lm_ws g ca L Z) sz)) 0 0 := by
  refine lm_entry (by decide) (Nat.le_of_ble_eq_true rfl) (fun p e s m args below meth c A eA hA hG C hK => ?_)
  rw [eA]
  unfold lw_X2_starve at h
  show gx_W p l e (headSpec (ws_ yX2_starve cX2_starve 5 none) rmX2_starve).room s m args below meth c 5 (lm_I D t0 g ca A s L []) 0 0 (MQ below (va_Qv Q (lm_B D t0 g ca A) A) args s 0 0 A) 0 [(0, .ref (g 0)), (1, .ref a1), (2, .int a2)] []
  refine gx_iload_n C dX2_starve_0 rfl 2 rfl ?_
  refine gx_bipush (v := 60) C dX2_starve_1 (by decide) ?_
  refine gx_icmp_ge (tgt := 60) C dX2_starve_3 (by decide) (fun z => ?_) (fun z => ?_)
  · replace h := h.1 z
    refine gx_iload_n C dX2_starve_60 rfl 2 rfl ?_
    refine gx_bipush (v := 60) C dX2_starve_61 (by decide) ?_
    refine gx_aload_n C dX2_starve_63 rfl 1 rfl ?_
    obtain ⟨m64, h⟩ := h
    refine gw_roi (rest := [.int 60, .int a2]) C (rk_X5_size h) (cwV 0 C.t (lw_V q1341 q1342 q1343 q151 q1344) rfl rfl rfl ⟨rfl, dmX5_size⟩ ⟨Nat.le_of_ble_eq_true rfl, Nat.le_of_ble_eq_true rfl⟩) (ro_pre hK (ci := 4) (q := (RX5, TX5, 3)) rfl (ll_Hb m64) (lm_bws m64)) rfl rfl (Nat.le_of_ble_eq_true rfl) ⟨Nat.zero_le _, Nat.zero_le _⟩ dX2_starve_64 (fun r64 h => ?_)
    refine gx_imul C dX2_starve_67 ?_
    refine gx_icmp_ge (tgt := 81) C dX2_starve_68 (by decide) (fun z => ?_) (fun z => ?_)
    · replace h := h.1 z
      refine gx_sub [] rfl ?_
      exact lb_X2_starve_81 C hK hG hA h
    · replace h := h.2 z
      refine gx_aload_n C dX2_starve_71 rfl 0 rfl ?_
      refine gx_aload_n C dX2_starve_72 rfl 0 rfl ?_
      refine gx_aload_n C dX2_starve_73 rfl 1 rfl ?_
      refine lm_callq (rest := [.ref (g 0)]) C hK hG hA (fun Z sz => lk_X2_younger h) (cwV 1 C.t (lw_V q1492 q1494 qs16 q120 q1495) rfl rfl rfl ⟨rfl, dmX2_younger⟩ ⟨Nat.le_of_ble_eq_true rfl, Nat.le_of_ble_eq_true rfl⟩) rfl rfl (Nat.le_of_ble_eq_true rfl) ⟨Nat.zero_le _, Nat.zero_le _⟩ dX2_starve_74 (fun r74 L74 h => ?_)
      refine gx_iconst (v := 0) C dX2_starve_77 (by decide) ?_
      obtain ⟨o78, e_o78, h⟩ := h
      have hh := h; subst e_o78; have h := hh; clear hh
      refine lm_callv (rest := []) C hK hG hA (fun Z sz => lk_X2_die h) (cwV 2 C.t (lw_V q1480 q1482 qs14 q120 q1483) rfl rfl rfl ⟨rfl, dmX2_die⟩ ⟨Nat.le_of_ble_eq_true rfl, Nat.le_of_ble_eq_true rfl⟩) rfl rfl (Nat.le_of_ble_eq_true rfl) ⟨Nat.zero_le _, Nat.zero_le _⟩ dX2_starve_78 (fun L78 h => ?_)
      refine gx_sub [] rfl ?_
      exact lb_X2_starve_81 C hK hG hA h
  · replace h := h.2 z
    refine gx_iconst (v := 0) C dX2_starve_6 (by decide) ?_
    refine gx_istore_n (lv' := [(3, .int 0), (0, .ref (g 0)), (1, .ref a1), (2, .int a2)]) C dX2_starve_7 rfl (by decide) rfl ?_
    refine gx_sub [1, 2, 0] rfl ?_
    obtain ⟨n, h⟩ := h
    exact le_X2_starve_8 C hK hG hA n L a1 0 h
/-! Land.eat(LOwlYears$Box;)V -/
abbrev rmX2_eat : Room := { frames := 1, cells := 0, slots := 0, locals := 22 }
theorem dmX2_eat : yX2_eat.cls ≠ "java/lang/invoke/MethodHandle" ∧ yX2_eat.cls ≠ "java/lang/invoke/VarHandle" ∧ (parseMethodDescriptor yX2_eat.desc).map (fun d => d.parameters.length) = some 1 := by decide +kernel
def lj_X2_eat_83 (L : LSt) (Q : LSt → Prop) : Prop :=
  Q L
theorem lb_X2_eat_83 {l : Launch} {p : Program} {e : Env} {s : State} {m : MethodId} {args : Array Value} {below : List Frame} {meth : Method} {c : Code} {D : va_G} {t0 : Nat} {g : Nat → Nat} {ca : Nat → ClassId} {A : Nat → Prop} (C : gx_C p s m args meth c cX2_eat 5 none RX2) (hK : gK D ca s) (hG : gZ t0 A s) (hA : ∀ q, s.heap.size ≤ q → A q) {L : LSt} {Q : LSt → Prop} (h : lj_X2_eat_83 L Q)  : gx_W p l e (headSpec (ws_ yX2_eat cX2_eat 5 none) rmX2_eat).room s m args below meth c 5 (lm_I D t0 g ca A s L []) 0 0 (MQ below (va_Qv Q (lm_B D t0 g ca A) A) args s 0 0 A) 83 [] [] := by
  unfold lj_X2_eat_83 at h
  exact lm_vret C h (Nat.le_refl _) (Nat.le_refl _) dX2_eat_83
def lj_X2_eat_77 (L : LSt) (a1 : Nat) (a2 : Int32) (a3 : Int32) (k10 : LSt → Nat → Int32 → Int32 → Prop) (Q : LSt → Prop) : Prop :=
  k10 L a1 a2 (a3 + 1)
theorem lb_X2_eat_77 {l : Launch} {p : Program} {e : Env} {s : State} {m : MethodId} {args : Array Value} {below : List Frame} {meth : Method} {c : Code} {D : va_G} {t0 : Nat} {g : Nat → Nat} {ca : Nat → ClassId} {A : Nat → Prop} (C : gx_C p s m args meth c cX2_eat 5 none RX2) (hK : gK D ca s) (hG : gZ t0 A s) (hA : ∀ q, s.heap.size ≤ q → A q) {L : LSt} {a1 : Nat} {a2 : Int32} {a3 : Int32} {k10 : LSt → Nat → Int32 → Int32 → Prop} {Q : LSt → Prop} (h : lj_X2_eat_77 L a1 a2 a3 k10 Q) (hk10 : ∀ (L : LSt) (a1 : Nat) (a2 : Int32) (a3 : Int32), k10 L a1 a2 a3 → gx_W p l e (headSpec (ws_ yX2_eat cX2_eat 5 none) rmX2_eat).room s m args below meth c 5 (lm_I D t0 g ca A s L []) 0 0 (MQ below (va_Qv Q (lm_B D t0 g ca A) A) args s 0 0 A) 10 [(0, .ref (g 0)), (1, .ref a1), (2, .int a2), (3, .int a3)] []) : gx_W p l e (headSpec (ws_ yX2_eat cX2_eat 5 none) rmX2_eat).room s m args below meth c 5 (lm_I D t0 g ca A s L []) 0 0 (MQ below (va_Qv Q (lm_B D t0 g ca A) A) args s 0 0 A) 77 [(0, .ref (g 0)), (1, .ref a1), (2, .int a2), (3, .int a3)] [] := by
  unfold lj_X2_eat_77 at h
  refine gx_iinc (v := a3 + 1) (k := 3) (lv' := [(3, .int (a3 + 1)), (0, .ref (g 0)), (1, .ref a1), (2, .int a2)]) C dX2_eat_77 rfl rfl (by decide) rfl ?_
  refine gx_goto (tgt := 10) C dX2_eat_80 (by decide) ?_
  refine gx_sub [1, 2, 3, 0] rfl ?_
  exact hk10 L a1 a2 (a3 + 1) h
def lj_X2_eat_10 (L : LSt) (a1 : Nat) (a2 : Int32) (a3 : Int32) (k10 : LSt → Nat → Int32 → Int32 → Prop) (Q : LSt → Prop) : Prop :=
  ((64 ≤ a3 → lj_X2_eat_83 L Q) ∧ (¬ (64 ≤ a3) → ((a2 ≤ 0 → lj_X2_eat_83 L Q) ∧ (¬ (a2 ≤ 0) → (a1 ∈ ls_bx L ∧ pw_X1_has (ls_bg L a1) a3 (fun r25 => ((r25 = 0 → lj_X2_eat_77 L a1 a2 a3 k10 Q) ∧ (¬ (r25 = 0) → (vp_in a3 64 ∧ (vp_in a3 64 ∧ (¬ (ls_r L 2 a3) = 0 ∧ (∀ x48 : Int32, x48 = (if ((ls_r L 1 a3) / (ls_r L 2 a3)) < a2 then ((ls_r L 1 a3) / (ls_r L 2 a3)) else a2) → (vp_in a3 64 ∧ (vp_in a3 64 ∧ (∀ L60 : LSt, L60 = ls_a L 1 a3 ((ls_r L 1 a3) - x48) → (∀ L74 : LSt, L74 = ls_s L60 16 ((L60.1 16) + x48) → lj_X2_eat_77 L74 a1 (a2 - x48) a3 k10 Q))))))))))))))))
theorem lb_X2_eat_10 {l : Launch} {p : Program} {e : Env} {s : State} {m : MethodId} {args : Array Value} {below : List Frame} {meth : Method} {c : Code} {D : va_G} {t0 : Nat} {g : Nat → Nat} {ca : Nat → ClassId} {A : Nat → Prop} (C : gx_C p s m args meth c cX2_eat 5 none RX2) (hK : gK D ca s) (hG : gZ t0 A s) (hA : ∀ q, s.heap.size ≤ q → A q) {L : LSt} {a1 : Nat} {a2 : Int32} {a3 : Int32} {k10 : LSt → Nat → Int32 → Int32 → Prop} {Q : LSt → Prop} (h : lj_X2_eat_10 L a1 a2 a3 k10 Q) (hk10 : ∀ (L : LSt) (a1 : Nat) (a2 : Int32) (a3 : Int32), k10 L a1 a2 a3 → gx_W p l e (headSpec (ws_ yX2_eat cX2_eat 5 none) rmX2_eat).room s m args below meth c 5 (lm_I D t0 g ca A s L []) 0 0 (MQ below (va_Qv Q (lm_B D t0 g ca A) A) args s 0 0 A) 10 [(0, .ref (g 0)), (1, .ref a1), (2, .int a2), (3, .int a3)] []) : gx_W p l e (headSpec (ws_ yX2_eat cX2_eat 5 none) rmX2_eat).room s m args below meth c 5 (lm_I D t0 g ca A s L []) 0 0 (MQ below (va_Qv Q (lm_B D t0 g ca A) A) args s 0 0 A) 10 [(0, .ref (g 0)), (1, .ref a1), (2, .int a2), (3, .int a3)] [] := by
  unfold lj_X2_eat_10 at h
  refine gx_iload_n C dX2_eat_10 rfl 3 rfl ?_
  refine gx_bipush (v := 64) C dX2_eat_11 (by decide) ?_
  refine gx_icmp_ge (tgt := 83) C dX2_eat_13 (by decide) (fun z => ?_) (fun z => ?_)
  · replace h := h.1 z
    refine gx_sub [] rfl ?_
    exact lb_X2_eat_83 C hK hG hA h
  · replace h := h.2 z
    refine gx_iload_n C dX2_eat_16 rfl 2 rfl ?_
    refine gx_if_le (tgt := 83) C dX2_eat_17 (by decide) (fun z => ?_) (fun z => ?_)
    · replace h := h.1 z
      refine gx_sub [] rfl ?_
      exact lb_X2_eat_83 C hK hG hA h
    · replace h := h.2 z
      refine gx_aload_n C dX2_eat_20 rfl 1 rfl ?_
      obtain ⟨m21, h⟩ := h
      refine gw_getN C hK in_X5 rfl (ll_Hb m21) 2 (by decide) q396 rfl rfl dX2_eat_21 ?_
      refine gx_iload_n C dX2_eat_24 rfl 3 rfl ?_
      refine gw_callsN (rest := []) C (pk_X1_has h) ⟨va_cnB 2 C.t (lw_meth q1427) rfl rfl rfl (hK.2.2.1 _ _ _ _ q1425) (C.t _ q119) dmX1_has ⟨Nat.le_of_ble_eq_true rfl, Nat.le_of_ble_eq_true rfl⟩, C.t _ q1426, trivial⟩ rfl rfl (Nat.le_of_ble_eq_true rfl) ⟨Nat.zero_le _, Nat.zero_le _⟩ dX2_eat_25 (fun r25 h => ?_)
      refine gx_if_eq (tgt := 77) C dX2_eat_28 (by decide) (fun z => ?_) (fun z => ?_)
      · replace h := h.1 z
        exact lb_X2_eat_77 C hK hG hA h hk10
      · replace h := h.2 z
        refine gx_iload_n C dX2_eat_31 rfl 2 rfl ?_
        refine gx_aload_n C dX2_eat_32 rfl 0 rfl ?_
        refine gw_get C hK in_X2 rfl ll_H0 1 (by decide) q234 rfl rfl dX2_eat_33 ?_
        refine gx_iload_n C dX2_eat_36 rfl 3 rfl ?_
        obtain ⟨g37, h⟩ := h
        refine gw_iald C hK ll_Ha1 g37 dX2_eat_37 ?_
        refine gx_aload_n C dX2_eat_38 rfl 0 rfl ?_
        refine gw_get C hK in_X2 rfl ll_H0 2 (by decide) q236 rfl rfl dX2_eat_39 ?_
        refine gx_iload_n C dX2_eat_42 rfl 3 rfl ?_
        obtain ⟨g43, h⟩ := h
        refine gw_iald C hK ll_Ha2 g43 dX2_eat_43 ?_
        obtain ⟨g44, h⟩ := h
        refine gx_idiv C dX2_eat_44 g44 ?_
        refine gx_mmin (rest := []) C q1466 q470 q140 q471 (Nat.le_of_ble_eq_true rfl) (Nat.le_of_ble_eq_true rfl) ⟨Nat.zero_le _, Nat.zero_le _⟩ dX2_eat_45 ?_
        refine gx_topi (fun x48 e_x48 => ?_)
        replace h := h x48 e_x48
        refine gx_istore (lv' := [(4, .int x48), (0, .ref (g 0)), (1, .ref a1), (2, .int a2), (3, .int a3)]) C dX2_eat_48 (by decide) rfl ?_
        refine gx_aload_n C dX2_eat_50 rfl 1 rfl ?_
        refine gw_get C hK in_X2 rfl ll_H0 1 (by decide) q234 rfl rfl dX2_eat_51 ?_
        refine gx_iload_n C dX2_eat_54 rfl 4 rfl ?_
        refine gx_dup2_11 C dX2_eat_55 rfl rfl ?_
        obtain ⟨g56, h⟩ := h
        refine gw_iald C hK ll_Ha1 g56 dX2_eat_56 ?_
        refine gx_iload C dX2_eat_57 0 rfl ?_
        refine gx_isub C dX2_eat_59 ?_
        obtain ⟨g60, h⟩ := h
        refine gw_iast C hK (ll_Ua1 _ _) g60 dX2_eat_60 ?_
        refine lm_name (fun L60 e_L60 => ?_)
        replace h := h L60 e_L60
        refine gx_iload_n C dX2_eat_61 rfl 3 rfl ?_
        refine gx_iload C dX2_eat_62 0 rfl ?_
        refine gx_isub C dX2_eat_64 ?_
        refine gx_istore_n (lv' := [(2, .int (a2 - x48)), (4, .int x48), (0, .ref (g 0)), (1, .ref a1), (3, .int a3)]) C dX2_eat_65 rfl (by decide) rfl ?_
        refine gx_aload_n C dX2_eat_66 rfl 2 rfl ?_
        refine gx_dup C dX2_eat_67 rfl ?_
        refine gw_get C hK in_X2 rfl ll_H0 16 (by decide) q261 rfl rfl dX2_eat_68 ?_
        refine gx_iload C dX2_eat_71 1 rfl ?_
        refine gx_iadd C dX2_eat_73 ?_
        refine gw_put C hK in_X2 tyX2 tyX2_ok nmX2 rfl 16 (by decide) q261 rfl rfl (fs := ls_fs g L60) (ty := .int) rfl rfl rfl (show 16 < 18 by decide) (ll_Us16 _) dX2_eat_74 ?_
        refine lm_name (fun L74 e_L74 => ?_)
        replace h := h L74 e_L74
        refine gx_sub [2, 3, 0, 4] rfl ?_
        exact lb_X2_eat_77 C hK hG hA h hk10
def ll_X2_eat_10 (Q : LSt → Prop) : Nat → LSt → Nat → Int32 → Int32 → Prop
  | 0, _, _, _, _ => False
  | n + 1, L, a1, a2, a3 => lj_X2_eat_10 L a1 a2 a3 (fun L a1 a2 a3 => ll_X2_eat_10 Q n L a1 a2 a3) Q
theorem le_X2_eat_10 {l : Launch} {p : Program} {e : Env} {s : State} {m : MethodId} {args : Array Value} {below : List Frame} {meth : Method} {c : Code} {D : va_G} {t0 : Nat} {g : Nat → Nat} {ca : Nat → ClassId} {A : Nat → Prop} (C : gx_C p s m args meth c cX2_eat 5 none RX2) (hK : gK D ca s) (hG : gZ t0 A s) (hA : ∀ q, s.heap.size ≤ q → A q) {Q : LSt → Prop}  (n : Nat) : ∀ (L : LSt) (a1 : Nat) (a2 : Int32) (a3 : Int32), ll_X2_eat_10 Q n L a1 a2 a3 → gx_W p l e (headSpec (ws_ yX2_eat cX2_eat 5 none) rmX2_eat).room s m args below meth c 5 (lm_I D t0 g ca A s L []) 0 0 (MQ below (va_Qv Q (lm_B D t0 g ca A) A) args s 0 0 A) 10 [(0, .ref (g 0)), (1, .ref a1), (2, .int a2), (3, .int a3)] [] := by
  induction n with
  | zero => intro L a1 a2 a3 h; exact False.elim h
  | succ n ih => intro L a1 a2 a3 h; exact lb_X2_eat_10 C hK hG hA (show lj_X2_eat_10 L a1 a2 a3 (fun L a1 a2 a3 => ll_X2_eat_10 Q n L a1 a2 a3) Q from h) (fun L a1 a2 a3 h => ih L a1 a2 a3 h)
def lw_X2_eat (L : LSt) (a1 : Nat) (Q : LSt → Prop) : Prop :=
  (a1 ∈ ls_bx L ∧ rw_X5_size (ls_br L a1) (fun r3 => ∃ n : Nat, ll_X2_eat_10 Q n L a1 (60 * r3) 0))
theorem lk_X2_eat {l : Launch} {D : va_G} {t0 : Nat} {g : Nat → Nat} {ca : Nat → ClassId} {Z : va_W} {sz : Nat} {L : LSt} {a1 : Nat} {Q : LSt → Prop} (h : lw_X2_eat L a1 Q) : lm_Met l yX2_eat cX2_eat 5 none rmX2_eat [.ref a1] D t0 g ca Z sz L (va_Qv Q (lm_B D t0 g ca (va_A (lm_ws g ca L Z) sz)) (va_A (lm_ws g ca L Z) sz)) 0 0 := by
  refine lm_entry (by decide) (Nat.le_of_ble_eq_true rfl) (fun p e s m args below meth c A eA hA hG C hK => ?_)
  rw [eA]
  unfold lw_X2_eat at h
  show gx_W p l e (headSpec (ws_ yX2_eat cX2_eat 5 none) rmX2_eat).room s m args below meth c 5 (lm_I D t0 g ca A s L []) 0 0 (MQ below (va_Qv Q (lm_B D t0 g ca A) A) args s 0 0 A) 0 [(0, .ref (g 0)), (1, .ref a1)] []
  refine gx_bipush (v := 60) C dX2_eat_0 (by decide) ?_
  refine gx_aload_n C dX2_eat_2 rfl 1 rfl ?_
  obtain ⟨m3, h⟩ := h
  refine gw_roi (rest := [.int 60]) C (rk_X5_size h) (cwV 0 C.t (lw_V q1341 q1342 q1343 q151 q1344) rfl rfl rfl ⟨rfl, dmX5_size⟩ ⟨Nat.le_of_ble_eq_true rfl, Nat.le_of_ble_eq_true rfl⟩) (ro_pre hK (ci := 4) (q := (RX5, TX5, 3)) rfl (ll_Hb m3) (lm_bws m3)) rfl rfl (Nat.le_of_ble_eq_true rfl) ⟨Nat.zero_le _, Nat.zero_le _⟩ dX2_eat_3 (fun r3 h => ?_)
  refine gx_imul C dX2_eat_6 ?_
  refine gx_istore_n (lv' := [(2, .int (60 * r3)), (0, .ref (g 0)), (1, .ref a1)]) C dX2_eat_7 rfl (by decide) rfl ?_
  refine gx_iconst (v := 0) C dX2_eat_8 (by decide) ?_
  refine gx_istore_n (lv' := [(3, .int 0), (2, .int (60 * r3)), (0, .ref (g 0)), (1, .ref a1)]) C dX2_eat_9 rfl (by decide) rfl ?_
  refine gx_sub [2, 3, 1, 0] rfl ?_
  obtain ⟨n, h⟩ := h
  exact le_X2_eat_10 C hK hG hA n L a1 (60 * r3) 0 h
/-! Land.hunger()V -/
abbrev rmX2_hunger : Room := { frames := 7, cells := 0, slots := 0, locals := 153 }
theorem dmX2_hunger : yX2_hunger.cls ≠ "java/lang/invoke/MethodHandle" ∧ yX2_hunger.cls ≠ "java/lang/invoke/VarHandle" ∧ (parseMethodDescriptor yX2_hunger.desc).map (fun d => d.parameters.length) = some 0 := by decide +kernel
def lj_X2_hunger_49 (L : LSt) (a1 : Int32) (a2 : Int32) (k10 : LSt → Int32 → Int32 → Prop) (Q : LSt → Prop) : Prop :=
  k10 L a1 (a2 + 1)
theorem lb_X2_hunger_49 {l : Launch} {p : Program} {e : Env} {s : State} {m : MethodId} {args : Array Value} {below : List Frame} {meth : Method} {c : Code} {D : va_G} {t0 : Nat} {g : Nat → Nat} {ca : Nat → ClassId} {A : Nat → Prop} (C : gx_C p s m args meth c cX2_hunger 4 none RX2) (hK : gK D ca s) (hG : gZ t0 A s) (hA : ∀ q, s.heap.size ≤ q → A q) {L : LSt} {a1 : Int32} {a2 : Int32} {k10 : LSt → Int32 → Int32 → Prop} {Q : LSt → Prop} (h : lj_X2_hunger_49 L a1 a2 k10 Q) (hk10 : ∀ (L : LSt) (a1 : Int32) (a2 : Int32), k10 L a1 a2 → gx_W p l e (headSpec (ws_ yX2_hunger cX2_hunger 4 none) rmX2_hunger).room s m args below meth c 4 (lm_I D t0 g ca A s L []) 0 0 (MQ below (va_Qv Q (lm_B D t0 g ca A) A) args s 0 0 A) 10 [(0, .ref (g 0)), (1, .int a1), (2, .int a2)] []) : gx_W p l e (headSpec (ws_ yX2_hunger cX2_hunger 4 none) rmX2_hunger).room s m args below meth c 4 (lm_I D t0 g ca A s L []) 0 0 (MQ below (va_Qv Q (lm_B D t0 g ca A) A) args s 0 0 A) 49 [(0, .ref (g 0)), (1, .int a1), (2, .int a2)] [] := by
  unfold lj_X2_hunger_49 at h
  refine gx_iinc (v := a2 + 1) (k := 2) (lv' := [(2, .int (a2 + 1)), (0, .ref (g 0)), (1, .int a1)]) C dX2_hunger_49 rfl rfl (by decide) rfl ?_
  refine gx_goto (tgt := 10) C dX2_hunger_52 (by decide) ?_
  refine gx_sub [1, 2, 0] rfl ?_
  exact hk10 L a1 (a2 + 1) h
def lj_X2_hunger_10 (L : LSt) (a1 : Int32) (a2 : Int32) (k10 : LSt → Int32 → Int32 → Prop) (Q : LSt → Prop) : Prop :=
  ((a1 ≤ a2 → Q L) ∧ (¬ (a1 ≤ a2) → (vp_in a2 (ls_bx L).length ∧ ∀ o20 : Nat, o20 = (ls_bx L).getD a2.toNatClampNeg 0 → rw_X5_isLivedIn (ls_br L o20) (fun r28 => ((r28 = 0 → lj_X2_hunger_49 L a1 a2 k10 Q) ∧ (¬ (r28 = 0) → lw_X2_share L o20 (fun r38 L38 => lw_X2_starve L38 o20 r38 (fun L41 => lw_X2_eat L41 o20 (fun L46 => lj_X2_hunger_49 L46 a1 a2 k10 Q)))))))))
theorem lb_X2_hunger_10 {l : Launch} {p : Program} {e : Env} {s : State} {m : MethodId} {args : Array Value} {below : List Frame} {meth : Method} {c : Code} {D : va_G} {t0 : Nat} {g : Nat → Nat} {ca : Nat → ClassId} {A : Nat → Prop} (C : gx_C p s m args meth c cX2_hunger 4 none RX2) (hK : gK D ca s) (hG : gZ t0 A s) (hA : ∀ q, s.heap.size ≤ q → A q) {L : LSt} {a1 : Int32} {a2 : Int32} {k10 : LSt → Int32 → Int32 → Prop} {Q : LSt → Prop} (h : lj_X2_hunger_10 L a1 a2 k10 Q) (hk10 : ∀ (L : LSt) (a1 : Int32) (a2 : Int32), k10 L a1 a2 → gx_W p l e (headSpec (ws_ yX2_hunger cX2_hunger 4 none) rmX2_hunger).room s m args below meth c 4 (lm_I D t0 g ca A s L []) 0 0 (MQ below (va_Qv Q (lm_B D t0 g ca A) A) args s 0 0 A) 10 [(0, .ref (g 0)), (1, .int a1), (2, .int a2)] []) : gx_W p l e (headSpec (ws_ yX2_hunger cX2_hunger 4 none) rmX2_hunger).room s m args below meth c 4 (lm_I D t0 g ca A s L []) 0 0 (MQ below (va_Qv Q (lm_B D t0 g ca A) A) args s 0 0 A) 10 [(0, .ref (g 0)), (1, .int a1), (2, .int a2)] [] := by
  unfold lj_X2_hunger_10 at h
  refine gx_iload_n C dX2_hunger_10 rfl 2 rfl ?_
  refine gx_iload_n C dX2_hunger_11 rfl 1 rfl ?_
  refine gx_icmp_ge (tgt := 55) C dX2_hunger_12 (by decide) (fun z => ?_) (fun z => ?_)
  · replace h := h.1 z
    exact lm_vret C h (Nat.le_refl _) (Nat.le_refl _) dX2_hunger_55
  · replace h := h.2 z
    refine gx_aload_n C dX2_hunger_15 rfl 0 rfl ?_
    refine gw_get C hK in_X2 rfl ll_H0 3 (by decide) q237 rfl rfl dX2_hunger_16 ?_
    refine gx_iload_n C dX2_hunger_19 rfl 2 rfl ?_
    obtain ⟨g20, h⟩ := h
    refine al_rget C hK ll_bl g20 (cwV 1 C.t (lw_V q364 q365 q366 q123 q367) rfl rfl rfl ⟨rfl, dmJ2_get⟩ ⟨Nat.le_of_ble_eq_true rfl, Nat.le_of_ble_eq_true rfl⟩) (Nat.le_of_ble_eq_true rfl) ⟨Nat.zero_le _, Nat.zero_le _⟩ dX2_hunger_20 (fun o20 e_o20 => ?_)
    replace h := h o20 e_o20
    have m_o20 : o20 ∈ ls_bx L := e_o20 ▸ al_mem g20
    refine gw_cast C hK (ci := 4) rfl (ll_Hb m_o20) q378 dX2_hunger_23 ?_
    refine gx_astore_n (lv' := [(3, .ref o20), (0, .ref (g 0)), (1, .int a1), (2, .int a2)]) C dX2_hunger_26 rfl (by decide) rfl ?_
    refine gx_aload_n C dX2_hunger_27 rfl 0 rfl ?_
    refine gw_roi (rest := []) C (rk_X5_isLivedIn h) (cwV 0 C.t (lw_V q1439 q1440 q1441 q151 q1442) rfl rfl rfl ⟨rfl, dmX5_isLivedIn⟩ ⟨Nat.le_of_ble_eq_true rfl, Nat.le_of_ble_eq_true rfl⟩) (ro_pre hK (ci := 4) (q := (RX5, TX5, 3)) rfl (ll_Hb m_o20) (lm_bws m_o20)) rfl rfl (Nat.le_of_ble_eq_true rfl) ⟨Nat.zero_le _, Nat.zero_le _⟩ dX2_hunger_28 (fun r28 h => ?_)
    refine gx_if_eq (tgt := 49) C dX2_hunger_31 (by decide) (fun z => ?_) (fun z => ?_)
    · replace h := h.1 z
      refine gx_sub [1, 2, 3] rfl ?_
      exact lb_X2_hunger_49 C hK hG hA h hk10
    · replace h := h.2 z
      refine gx_aload_n C dX2_hunger_34 rfl 1 rfl ?_
      refine gx_aload_n C dX2_hunger_35 rfl 0 rfl ?_
      refine gx_aload_n C dX2_hunger_36 rfl 1 rfl ?_
      refine gx_aload_n C dX2_hunger_37 rfl 0 rfl ?_
      refine lm_calli (rest := [.ref o20, .ref (g 0)]) C hK hG hA (fun Z sz => lk_X2_share h) (cwV 1 C.t (lw_V q1471 q1472 q1473 q120 q1474) rfl rfl rfl ⟨rfl, dmX2_share⟩ ⟨Nat.le_of_ble_eq_true rfl, Nat.le_of_ble_eq_true rfl⟩) rfl rfl (Nat.le_of_ble_eq_true rfl) ⟨Nat.zero_le _, Nat.zero_le _⟩ dX2_hunger_38 (fun r38 L38 h => ?_)
      refine lm_callv (rest := []) C hK hG hA (fun Z sz => lk_X2_starve h) (cwV 2 C.t (lw_V q1475 q1477 qs13 q120 q1478) rfl rfl rfl ⟨rfl, dmX2_starve⟩ ⟨Nat.le_of_ble_eq_true rfl, Nat.le_of_ble_eq_true rfl⟩) rfl rfl (Nat.le_of_ble_eq_true rfl) ⟨Nat.zero_le _, Nat.zero_le _⟩ dX2_hunger_41 (fun L41 h => ?_)
      refine gx_aload_n C dX2_hunger_44 rfl 1 rfl ?_
      refine gx_aload_n C dX2_hunger_45 rfl 0 rfl ?_
      refine lm_callv (rest := []) C hK hG hA (fun Z sz => lk_X2_eat h) (cwV 1 C.t (lw_V q1496 q1498 qs17 q120 q1499) rfl rfl rfl ⟨rfl, dmX2_eat⟩ ⟨Nat.le_of_ble_eq_true rfl, Nat.le_of_ble_eq_true rfl⟩) rfl rfl (Nat.le_of_ble_eq_true rfl) ⟨Nat.zero_le _, Nat.zero_le _⟩ dX2_hunger_46 (fun L46 h => ?_)
      refine gx_sub [1, 2, 3] rfl ?_
      exact lb_X2_hunger_49 C hK hG hA h hk10
def ll_X2_hunger_10 (Q : LSt → Prop) : Nat → LSt → Int32 → Int32 → Prop
  | 0, _, _, _ => False
  | n + 1, L, a1, a2 => lj_X2_hunger_10 L a1 a2 (fun L a1 a2 => ll_X2_hunger_10 Q n L a1 a2) Q
theorem le_X2_hunger_10 {l : Launch} {p : Program} {e : Env} {s : State} {m : MethodId} {args : Array Value} {below : List Frame} {meth : Method} {c : Code} {D : va_G} {t0 : Nat} {g : Nat → Nat} {ca : Nat → ClassId} {A : Nat → Prop} (C : gx_C p s m args meth c cX2_hunger 4 none RX2) (hK : gK D ca s) (hG : gZ t0 A s) (hA : ∀ q, s.heap.size ≤ q → A q) {Q : LSt → Prop}  (n : Nat) : ∀ (L : LSt) (a1 : Int32) (a2 : Int32), ll_X2_hunger_10 Q n L a1 a2 → gx_W p l e (headSpec (ws_ yX2_hunger cX2_hunger 4 none) rmX2_hunger).room s m args below meth c 4 (lm_I D t0 g ca A s L []) 0 0 (MQ below (va_Qv Q (lm_B D t0 g ca A) A) args s 0 0 A) 10 [(0, .ref (g 0)), (1, .int a1), (2, .int a2)] [] := by
  induction n with
  | zero => intro L a1 a2 h; exact False.elim h
  | succ n ih => intro L a1 a2 h; exact lb_X2_hunger_10 C hK hG hA (show lj_X2_hunger_10 L a1 a2 (fun L a1 a2 => ll_X2_hunger_10 Q n L a1 a2) Q from h) (fun L a1 a2 h => ih L a1 a2 h)
def lw_X2_hunger (L : LSt) (Q : LSt → Prop) : Prop :=
  ∃ n : Nat, ll_X2_hunger_10 Q n L (nI (ls_bx L).length) 0
theorem lk_X2_hunger {l : Launch} {D : va_G} {t0 : Nat} {g : Nat → Nat} {ca : Nat → ClassId} {Z : va_W} {sz : Nat} {L : LSt} {Q : LSt → Prop} (h : lw_X2_hunger L Q) : lm_Met l yX2_hunger cX2_hunger 4 none rmX2_hunger [] D t0 g ca Z sz L (va_Qv Q (lm_B D t0 g ca (va_A (lm_ws g ca L Z) sz)) (va_A (lm_ws g ca L Z) sz)) 0 0 := by
  refine lm_entry (by decide) (Nat.le_of_ble_eq_true rfl) (fun p e s m args below meth c A eA hA hG C hK => ?_)
  rw [eA]
  unfold lw_X2_hunger at h
  show gx_W p l e (headSpec (ws_ yX2_hunger cX2_hunger 4 none) rmX2_hunger).room s m args below meth c 4 (lm_I D t0 g ca A s L []) 0 0 (MQ below (va_Qv Q (lm_B D t0 g ca A) A) args s 0 0 A) 0 [(0, .ref (g 0))] []
  refine gx_aload_n C dX2_hunger_0 rfl 0 rfl ?_
  refine gw_get C hK in_X2 rfl ll_H0 3 (by decide) q237 rfl rfl dX2_hunger_1 ?_
  refine al_rsize (n := 0) C hK ll_bl (cwV 0 C.t (lw_V q360 q361 q362 q123 q363) rfl rfl rfl ⟨rfl, dmJ2_size⟩ ⟨Nat.le_of_ble_eq_true rfl, Nat.le_of_ble_eq_true rfl⟩) (Nat.le_of_ble_eq_true rfl) ⟨Nat.zero_le _, Nat.zero_le _⟩ dX2_hunger_4 ?_
  refine gx_istore_n (lv' := [(1, .int (nI (ls_bx L).length)), (0, .ref (g 0))]) C dX2_hunger_7 rfl (by decide) rfl ?_
  refine gx_iconst (v := 0) C dX2_hunger_8 (by decide) ?_
  refine gx_istore_n (lv' := [(2, .int 0), (1, .int (nI (ls_bx L).length)), (0, .ref (g 0))]) C dX2_hunger_9 rfl (by decide) rfl ?_
  refine gx_sub [2, 1, 0] rfl ?_
  obtain ⟨n, h⟩ := h
  exact le_X2_hunger_10 C hK hG hA n L (nI (ls_bx L).length) 0 h
/-! Land.roads()V -/
abbrev rmX2_roads : Room := { frames := 6, cells := 0, slots := 0, locals := 129 }
theorem dmX2_roads : yX2_roads.cls ≠ "java/lang/invoke/MethodHandle" ∧ yX2_roads.cls ≠ "java/lang/invoke/VarHandle" ∧ (parseMethodDescriptor yX2_roads.desc).map (fun d => d.parameters.length) = some 0 := by decide +kernel
def lj_X2_roads_94 (L : LSt) (a1 : Int32) (a2 : Int32) (k10 : LSt → Int32 → Int32 → Prop) (Q : LSt → Prop) : Prop :=
  k10 L a1 (a2 + 1)
theorem lb_X2_roads_94 {l : Launch} {p : Program} {e : Env} {s : State} {m : MethodId} {args : Array Value} {below : List Frame} {meth : Method} {c : Code} {D : va_G} {t0 : Nat} {g : Nat → Nat} {ca : Nat → ClassId} {A : Nat → Prop} (C : gx_C p s m args meth c cX2_roads 5 none RX2) (hK : gK D ca s) (hG : gZ t0 A s) (hA : ∀ q, s.heap.size ≤ q → A q) {L : LSt} {a1 : Int32} {a2 : Int32} {k10 : LSt → Int32 → Int32 → Prop} {Q : LSt → Prop} (h : lj_X2_roads_94 L a1 a2 k10 Q) (hk10 : ∀ (L : LSt) (a1 : Int32) (a2 : Int32), k10 L a1 a2 → gx_W p l e (headSpec (ws_ yX2_roads cX2_roads 5 none) rmX2_roads).room s m args below meth c 5 (lm_I D t0 g ca A s L []) 0 0 (MQ below (va_Qv Q (lm_B D t0 g ca A) A) args s 0 0 A) 10 [(0, .ref (g 0)), (1, .int a1), (2, .int a2)] []) : gx_W p l e (headSpec (ws_ yX2_roads cX2_roads 5 none) rmX2_roads).room s m args below meth c 5 (lm_I D t0 g ca A s L []) 0 0 (MQ below (va_Qv Q (lm_B D t0 g ca A) A) args s 0 0 A) 94 [(0, .ref (g 0)), (1, .int a1), (2, .int a2)] [] := by
  unfold lj_X2_roads_94 at h
  refine gx_iinc (v := a2 + 1) (k := 2) (lv' := [(2, .int (a2 + 1)), (0, .ref (g 0)), (1, .int a1)]) C dX2_roads_94 rfl rfl (by decide) rfl ?_
  refine gx_goto (tgt := 10) C dX2_roads_97 (by decide) ?_
  refine gx_sub [1, 2, 0] rfl ?_
  exact hk10 L a1 (a2 + 1) h
def lj_X2_roads_51 (L : LSt) (a1 : Int32) (a2 : Int32) (a3 : Nat) (s0 : Int32) (k10 : LSt → Int32 → Int32 → Prop) (Q : LSt → Prop) : Prop :=
  ((s0 ≤ 0 → lj_X2_roads_94 L a1 a2 k10 Q) ∧ (¬ (s0 ≤ 0) → (∀ L73 : LSt, L73 = ls_s L 10 (((75 * (L.1 10)) + 74) - ((75 * (L.1 10)) + 74) / 65537 * 65537) → ((s0 ≤ ((L73.1 10) - (L73.1 10) / 100 * 100) → lj_X2_roads_94 L73 a1 a2 k10 Q) ∧ (¬ (s0 ≤ ((L73.1 10) - (L73.1 10) / 100 * 100)) → lw_X2_die L73 a3 1 (fun L91 => lj_X2_roads_94 L91 a1 a2 k10 Q))))))
theorem lb_X2_roads_51 {l : Launch} {p : Program} {e : Env} {s : State} {m : MethodId} {args : Array Value} {below : List Frame} {meth : Method} {c : Code} {D : va_G} {t0 : Nat} {g : Nat → Nat} {ca : Nat → ClassId} {A : Nat → Prop} (C : gx_C p s m args meth c cX2_roads 5 none RX2) (hK : gK D ca s) (hG : gZ t0 A s) (hA : ∀ q, s.heap.size ≤ q → A q) {L : LSt} {a1 : Int32} {a2 : Int32} {a3 : Nat} {s0 : Int32} {k10 : LSt → Int32 → Int32 → Prop} {Q : LSt → Prop} (h : lj_X2_roads_51 L a1 a2 a3 s0 k10 Q) (hk10 : ∀ (L : LSt) (a1 : Int32) (a2 : Int32), k10 L a1 a2 → gx_W p l e (headSpec (ws_ yX2_roads cX2_roads 5 none) rmX2_roads).room s m args below meth c 5 (lm_I D t0 g ca A s L []) 0 0 (MQ below (va_Qv Q (lm_B D t0 g ca A) A) args s 0 0 A) 10 [(0, .ref (g 0)), (1, .int a1), (2, .int a2)] []) : gx_W p l e (headSpec (ws_ yX2_roads cX2_roads 5 none) rmX2_roads).room s m args below meth c 5 (lm_I D t0 g ca A s L []) 0 0 (MQ below (va_Qv Q (lm_B D t0 g ca A) A) args s 0 0 A) 51 [(0, .ref (g 0)), (1, .int a1), (2, .int a2), (3, .ref a3)] [.int s0] := by
  unfold lj_X2_roads_51 at h
  refine gx_istore (lv' := [(4, .int s0), (0, .ref (g 0)), (1, .int a1), (2, .int a2), (3, .ref a3)]) C dX2_roads_51 (by decide) rfl ?_
  refine gx_iload C dX2_roads_53 0 rfl ?_
  refine gx_if_le (tgt := 94) C dX2_roads_55 (by decide) (fun z => ?_) (fun z => ?_)
  · replace h := h.1 z
    refine gx_sub [1, 2, 3] rfl ?_
    exact lb_X2_roads_94 C hK hG hA h hk10
  · replace h := h.2 z
    refine gx_aload_n C dX2_roads_58 rfl 1 rfl ?_
    refine gx_bipush (v := 75) C dX2_roads_59 (by decide) ?_
    refine gx_aload_n C dX2_roads_61 rfl 1 rfl ?_
    refine gw_get C hK in_X2 rfl ll_H0 10 (by decide) q250 rfl rfl dX2_roads_62 ?_
    refine gx_imul C dX2_roads_65 ?_
    refine gx_bipush (v := 74) C dX2_roads_66 (by decide) ?_
    refine gx_iadd C dX2_roads_68 ?_
    refine gx_ldcw (v := 65537) C (C.t _ q1508) dX2_roads_69 ?_
    refine gx_irem C dX2_roads_72 (by decide) ?_
    refine gw_put C hK in_X2 tyX2 tyX2_ok nmX2 rfl 10 (by decide) q250 rfl rfl (fs := ls_fs g L) (ty := .int) rfl rfl rfl (show 10 < 18 by decide) (ll_Us10 _) dX2_roads_73 ?_
    refine lm_name (fun L73 e_L73 => ?_)
    replace h := h L73 e_L73
    refine gx_aload_n C dX2_roads_76 rfl 1 rfl ?_
    refine gw_get C hK in_X2 rfl ll_H0 10 (by decide) q250 rfl rfl dX2_roads_77 ?_
    refine gx_bipush (v := 100) C dX2_roads_80 (by decide) ?_
    refine gx_irem C dX2_roads_82 (by decide) ?_
    refine gx_iload C dX2_roads_83 0 rfl ?_
    refine gx_icmp_ge (tgt := 94) C dX2_roads_85 (by decide) (fun z => ?_) (fun z => ?_)
    · replace h := h.1 z
      refine gx_sub [1, 2, 3] rfl ?_
      exact lb_X2_roads_94 C hK hG hA h hk10
    · replace h := h.2 z
      refine gx_aload_n C dX2_roads_88 rfl 1 rfl ?_
      refine gx_aload_n C dX2_roads_89 rfl 4 rfl ?_
      refine gx_iconst (v := 1) C dX2_roads_90 (by decide) ?_
      refine lm_callv (rest := []) C hK hG hA (fun Z sz => lk_X2_die h) (cwV 2 C.t (lw_V q1480 q1482 qs14 q120 q1483) rfl rfl rfl ⟨rfl, dmX2_die⟩ ⟨Nat.le_of_ble_eq_true rfl, Nat.le_of_ble_eq_true rfl⟩) rfl rfl (Nat.le_of_ble_eq_true rfl) ⟨Nat.zero_le _, Nat.zero_le _⟩ dX2_roads_91 (fun L91 h => ?_)
      refine gx_sub [1, 2, 3] rfl ?_
      exact lb_X2_roads_94 C hK hG hA h hk10
def lj_X2_roads_10 (L : LSt) (a1 : Int32) (a2 : Int32) (k10 : LSt → Int32 → Int32 → Prop) (Q : LSt → Prop) : Prop :=
  ((a1 ≤ a2 → Q L) ∧ (¬ (a1 ≤ a2) → (vp_in a2 (ls_ow L).length ∧ ∀ o20 : Nat, o20 = (ls_ow L).getD a2.toNatClampNeg 0 → (((ls_of L 5 o20) = (-1) → lj_X2_roads_51 L a1 a2 o20 0 k10 Q) ∧ (¬ (ls_of L 5 o20) = (-1) → lw_X2_box L (ls_of L 5 o20) (fun r45 L45 => (∃ o48 : Nat, r45 = some o48 ∧ lw_X2_risk L45 o48 (fun r48 L48 => lj_X2_roads_51 L48 a1 a2 o20 r48 k10 Q))))))))
theorem lb_X2_roads_10 {l : Launch} {p : Program} {e : Env} {s : State} {m : MethodId} {args : Array Value} {below : List Frame} {meth : Method} {c : Code} {D : va_G} {t0 : Nat} {g : Nat → Nat} {ca : Nat → ClassId} {A : Nat → Prop} (C : gx_C p s m args meth c cX2_roads 5 none RX2) (hK : gK D ca s) (hG : gZ t0 A s) (hA : ∀ q, s.heap.size ≤ q → A q) {L : LSt} {a1 : Int32} {a2 : Int32} {k10 : LSt → Int32 → Int32 → Prop} {Q : LSt → Prop} (h : lj_X2_roads_10 L a1 a2 k10 Q) (hk10 : ∀ (L : LSt) (a1 : Int32) (a2 : Int32), k10 L a1 a2 → gx_W p l e (headSpec (ws_ yX2_roads cX2_roads 5 none) rmX2_roads).room s m args below meth c 5 (lm_I D t0 g ca A s L []) 0 0 (MQ below (va_Qv Q (lm_B D t0 g ca A) A) args s 0 0 A) 10 [(0, .ref (g 0)), (1, .int a1), (2, .int a2)] []) : gx_W p l e (headSpec (ws_ yX2_roads cX2_roads 5 none) rmX2_roads).room s m args below meth c 5 (lm_I D t0 g ca A s L []) 0 0 (MQ below (va_Qv Q (lm_B D t0 g ca A) A) args s 0 0 A) 10 [(0, .ref (g 0)), (1, .int a1), (2, .int a2)] [] := by
  unfold lj_X2_roads_10 at h
  refine gx_iload_n C dX2_roads_10 rfl 2 rfl ?_
  refine gx_iload_n C dX2_roads_11 rfl 1 rfl ?_
  refine gx_icmp_ge (tgt := 100) C dX2_roads_12 (by decide) (fun z => ?_) (fun z => ?_)
  · replace h := h.1 z
    exact lm_vret C h (Nat.le_refl _) (Nat.le_refl _) dX2_roads_100
  · replace h := h.2 z
    refine gx_aload_n C dX2_roads_15 rfl 0 rfl ?_
    refine gw_get C hK in_X2 rfl ll_H0 5 (by decide) q240 rfl rfl dX2_roads_16 ?_
    refine gx_iload_n C dX2_roads_19 rfl 2 rfl ?_
    obtain ⟨g20, h⟩ := h
    refine al_rget C hK ll_ol g20 (cwV 1 C.t (lw_V q364 q365 q366 q123 q367) rfl rfl rfl ⟨rfl, dmJ2_get⟩ ⟨Nat.le_of_ble_eq_true rfl, Nat.le_of_ble_eq_true rfl⟩) (Nat.le_of_ble_eq_true rfl) ⟨Nat.zero_le _, Nat.zero_le _⟩ dX2_roads_20 (fun o20 e_o20 => ?_)
    replace h := h o20 e_o20
    have m_o20 : o20 ∈ ls_ow L := e_o20 ▸ al_mem g20
    refine gw_cast C hK (ci := 5) rfl (ll_Ho m_o20) q1213 dX2_roads_23 ?_
    refine gx_astore_n (lv' := [(3, .ref o20), (0, .ref (g 0)), (1, .int a1), (2, .int a2)]) C dX2_roads_26 rfl (by decide) rfl ?_
    refine gx_aload_n C dX2_roads_27 rfl 0 rfl ?_
    refine gw_getN C hK in_X6 rfl (ll_Ho m_o20) 5 (by decide) q1238 rfl rfl dX2_roads_28 ?_
    refine gx_iconst (v := (-1)) C dX2_roads_31 (by decide) ?_
    refine gx_icmp_ne (tgt := 39) C dX2_roads_32 (by decide) (fun z => ?_) (fun z => ?_)
    · replace h := h.2 z
      refine gx_aload_n C dX2_roads_39 rfl 1 rfl ?_
      refine gx_aload_n C dX2_roads_40 rfl 1 rfl ?_
      refine gx_aload_n C dX2_roads_41 rfl 0 rfl ?_
      refine gw_getN C hK in_X6 rfl (ll_Ho m_o20) 5 (by decide) q1238 rfl rfl dX2_roads_42 ?_
      refine lm_callq (rest := [.ref (g 0)]) C hK hG hA (fun Z sz => lk_X2_box h) (cwV 1 C.t (lw_V q1488 q1489 q1490 q120 q1491) rfl rfl rfl ⟨rfl, dmX2_box⟩ ⟨Nat.le_of_ble_eq_true rfl, Nat.le_of_ble_eq_true rfl⟩) rfl rfl (Nat.le_of_ble_eq_true rfl) ⟨Nat.zero_le _, Nat.zero_le _⟩ dX2_roads_45 (fun r45 L45 h => ?_)
      obtain ⟨o48, e_o48, h⟩ := h
      have hh := h; subst e_o48; have h := hh; clear hh
      refine lm_calli (rest := []) C hK hG hA (fun Z sz => lk_X2_risk h) (cwV 1 C.t (lw_V q1504 q1505 q1506 q120 q1507) rfl rfl rfl ⟨rfl, dmX2_risk⟩ ⟨Nat.le_of_ble_eq_true rfl, Nat.le_of_ble_eq_true rfl⟩) rfl rfl (Nat.le_of_ble_eq_true rfl) ⟨Nat.zero_le _, Nat.zero_le _⟩ dX2_roads_48 (fun r48 L48 h => ?_)
      refine gx_sub [1, 2, 3, 0] rfl ?_
      exact lb_X2_roads_51 C hK hG hA h hk10
    · replace h := h.1 z
      refine gx_iconst (v := 0) C dX2_roads_35 (by decide) ?_
      refine gx_goto (tgt := 51) C dX2_roads_36 (by decide) ?_
      refine gx_sub [1, 2, 3, 0] rfl ?_
      exact lb_X2_roads_51 C hK hG hA h hk10
def ll_X2_roads_10 (Q : LSt → Prop) : Nat → LSt → Int32 → Int32 → Prop
  | 0, _, _, _ => False
  | n + 1, L, a1, a2 => lj_X2_roads_10 L a1 a2 (fun L a1 a2 => ll_X2_roads_10 Q n L a1 a2) Q
theorem le_X2_roads_10 {l : Launch} {p : Program} {e : Env} {s : State} {m : MethodId} {args : Array Value} {below : List Frame} {meth : Method} {c : Code} {D : va_G} {t0 : Nat} {g : Nat → Nat} {ca : Nat → ClassId} {A : Nat → Prop} (C : gx_C p s m args meth c cX2_roads 5 none RX2) (hK : gK D ca s) (hG : gZ t0 A s) (hA : ∀ q, s.heap.size ≤ q → A q) {Q : LSt → Prop}  (n : Nat) : ∀ (L : LSt) (a1 : Int32) (a2 : Int32), ll_X2_roads_10 Q n L a1 a2 → gx_W p l e (headSpec (ws_ yX2_roads cX2_roads 5 none) rmX2_roads).room s m args below meth c 5 (lm_I D t0 g ca A s L []) 0 0 (MQ below (va_Qv Q (lm_B D t0 g ca A) A) args s 0 0 A) 10 [(0, .ref (g 0)), (1, .int a1), (2, .int a2)] [] := by
  induction n with
  | zero => intro L a1 a2 h; exact False.elim h
  | succ n ih => intro L a1 a2 h; exact lb_X2_roads_10 C hK hG hA (show lj_X2_roads_10 L a1 a2 (fun L a1 a2 => ll_X2_roads_10 Q n L a1 a2) Q from h) (fun L a1 a2 h => ih L a1 a2 h)
def lw_X2_roads (L : LSt) (Q : LSt → Prop) : Prop :=
  ∃ n : Nat, ll_X2_roads_10 Q n L (nI (ls_ow L).length) 0
theorem lk_X2_roads {l : Launch} {D : va_G} {t0 : Nat} {g : Nat → Nat} {ca : Nat → ClassId} {Z : va_W} {sz : Nat} {L : LSt} {Q : LSt → Prop} (h : lw_X2_roads L Q) : lm_Met l yX2_roads cX2_roads 5 none rmX2_roads [] D t0 g ca Z sz L (va_Qv Q (lm_B D t0 g ca (va_A (lm_ws g ca L Z) sz)) (va_A (lm_ws g ca L Z) sz)) 0 0 := by
  refine lm_entry (by decide) (Nat.le_of_ble_eq_true rfl) (fun p e s m args below meth c A eA hA hG C hK => ?_)
  rw [eA]
  unfold lw_X2_roads at h
  show gx_W p l e (headSpec (ws_ yX2_roads cX2_roads 5 none) rmX2_roads).room s m args below meth c 5 (lm_I D t0 g ca A s L []) 0 0 (MQ below (va_Qv Q (lm_B D t0 g ca A) A) args s 0 0 A) 0 [(0, .ref (g 0))] []
  refine gx_aload_n C dX2_roads_0 rfl 0 rfl ?_
  refine gw_get C hK in_X2 rfl ll_H0 5 (by decide) q240 rfl rfl dX2_roads_1 ?_
  refine al_rsize (n := 0) C hK ll_ol (cwV 0 C.t (lw_V q360 q361 q362 q123 q363) rfl rfl rfl ⟨rfl, dmJ2_size⟩ ⟨Nat.le_of_ble_eq_true rfl, Nat.le_of_ble_eq_true rfl⟩) (Nat.le_of_ble_eq_true rfl) ⟨Nat.zero_le _, Nat.zero_le _⟩ dX2_roads_4 ?_
  refine gx_istore_n (lv' := [(1, .int (nI (ls_ow L).length)), (0, .ref (g 0))]) C dX2_roads_7 rfl (by decide) rfl ?_
  refine gx_iconst (v := 0) C dX2_roads_8 (by decide) ?_
  refine gx_istore_n (lv' := [(2, .int 0), (1, .int (nI (ls_ow L).length)), (0, .ref (g 0))]) C dX2_roads_9 rfl (by decide) rfl ?_
  refine gx_sub [2, 1, 0] rfl ?_
  obtain ⟨n, h⟩ := h
  exact le_X2_roads_10 C hK hG hA n L (nI (ls_ow L).length) 0 h
/-! Land.ages()V -/
abbrev rmX2_ages : Room := { frames := 6, cells := 0, slots := 0, locals := 129 }
theorem dmX2_ages : yX2_ages.cls ≠ "java/lang/invoke/MethodHandle" ∧ yX2_ages.cls ≠ "java/lang/invoke/VarHandle" ∧ (parseMethodDescriptor yX2_ages.desc).map (fun d => d.parameters.length) = some 0 := by decide +kernel
def lj_X2_ages_84 (L : LSt) (a1 : Int32) (a2 : Int32) (k10 : LSt → Int32 → Int32 → Prop) (Q : LSt → Prop) : Prop :=
  k10 L a1 (a2 + 1)
theorem lb_X2_ages_84 {l : Launch} {p : Program} {e : Env} {s : State} {m : MethodId} {args : Array Value} {below : List Frame} {meth : Method} {c : Code} {D : va_G} {t0 : Nat} {g : Nat → Nat} {ca : Nat → ClassId} {A : Nat → Prop} (C : gx_C p s m args meth c cX2_ages 4 none RX2) (hK : gK D ca s) (hG : gZ t0 A s) (hA : ∀ q, s.heap.size ≤ q → A q) {L : LSt} {a1 : Int32} {a2 : Int32} {k10 : LSt → Int32 → Int32 → Prop} {Q : LSt → Prop} (h : lj_X2_ages_84 L a1 a2 k10 Q) (hk10 : ∀ (L : LSt) (a1 : Int32) (a2 : Int32), k10 L a1 a2 → gx_W p l e (headSpec (ws_ yX2_ages cX2_ages 4 none) rmX2_ages).room s m args below meth c 4 (lm_I D t0 g ca A s L []) 0 0 (MQ below (va_Qv Q (lm_B D t0 g ca A) A) args s 0 0 A) 10 [(0, .ref (g 0)), (1, .int a1), (2, .int a2)] []) : gx_W p l e (headSpec (ws_ yX2_ages cX2_ages 4 none) rmX2_ages).room s m args below meth c 4 (lm_I D t0 g ca A s L []) 0 0 (MQ below (va_Qv Q (lm_B D t0 g ca A) A) args s 0 0 A) 84 [(0, .ref (g 0)), (1, .int a1), (2, .int a2)] [] := by
  unfold lj_X2_ages_84 at h
  refine gx_iinc (v := a2 + 1) (k := 2) (lv' := [(2, .int (a2 + 1)), (0, .ref (g 0)), (1, .int a1)]) C dX2_ages_84 rfl rfl (by decide) rfl ?_
  refine gx_goto (tgt := 10) C dX2_ages_87 (by decide) ?_
  refine gx_sub [1, 2, 0] rfl ?_
  exact hk10 L a1 (a2 + 1) h
def lj_X2_ages_10 (L : LSt) (a1 : Int32) (a2 : Int32) (k10 : LSt → Int32 → Int32 → Prop) (Q : LSt → Prop) : Prop :=
  ((a1 ≤ a2 → Q L) ∧ (¬ (a1 ≤ a2) → (vp_in a2 (ls_ow L).length ∧ ∀ o20 : Nat, o20 = (ls_ow L).getD a2.toNatClampNeg 0 → (((ls_of L 6 o20) = 0 → lj_X2_ages_84 L a1 a2 k10 Q) ∧ (¬ (ls_of L 6 o20) = 0 → (∀ L41 : LSt, L41 = ls_o L 4 o20 ((ls_of L 4 o20) + 1) → (o20 ∈ ls_ow L41 ∧ (((ls_of L41 4 o20) = 10 → lw_X2_die L41 o20 2 (fun L56 => lj_X2_ages_84 L56 a1 a2 k10 Q)) ∧ (¬ (ls_of L41 4 o20) = 10 → (((ls_of L41 5 o20) = (-1) → (((ls_of L41 4 o20) < 2 → lj_X2_ages_84 L41 a1 a2 k10 Q) ∧ (¬ (ls_of L41 4 o20) < 2 → lw_X2_die L41 o20 3 (fun L81 => lj_X2_ages_84 L81 a1 a2 k10 Q)))) ∧ (¬ (ls_of L41 5 o20) = (-1) → lj_X2_ages_84 L41 a1 a2 k10 Q)))))))))))
theorem lb_X2_ages_10 {l : Launch} {p : Program} {e : Env} {s : State} {m : MethodId} {args : Array Value} {below : List Frame} {meth : Method} {c : Code} {D : va_G} {t0 : Nat} {g : Nat → Nat} {ca : Nat → ClassId} {A : Nat → Prop} (C : gx_C p s m args meth c cX2_ages 4 none RX2) (hK : gK D ca s) (hG : gZ t0 A s) (hA : ∀ q, s.heap.size ≤ q → A q) {L : LSt} {a1 : Int32} {a2 : Int32} {k10 : LSt → Int32 → Int32 → Prop} {Q : LSt → Prop} (h : lj_X2_ages_10 L a1 a2 k10 Q) (hk10 : ∀ (L : LSt) (a1 : Int32) (a2 : Int32), k10 L a1 a2 → gx_W p l e (headSpec (ws_ yX2_ages cX2_ages 4 none) rmX2_ages).room s m args below meth c 4 (lm_I D t0 g ca A s L []) 0 0 (MQ below (va_Qv Q (lm_B D t0 g ca A) A) args s 0 0 A) 10 [(0, .ref (g 0)), (1, .int a1), (2, .int a2)] []) : gx_W p l e (headSpec (ws_ yX2_ages cX2_ages 4 none) rmX2_ages).room s m args below meth c 4 (lm_I D t0 g ca A s L []) 0 0 (MQ below (va_Qv Q (lm_B D t0 g ca A) A) args s 0 0 A) 10 [(0, .ref (g 0)), (1, .int a1), (2, .int a2)] [] := by
  unfold lj_X2_ages_10 at h
  refine gx_iload_n C dX2_ages_10 rfl 2 rfl ?_
  refine gx_iload_n C dX2_ages_11 rfl 1 rfl ?_
  refine gx_icmp_ge (tgt := 90) C dX2_ages_12 (by decide) (fun z => ?_) (fun z => ?_)
  · replace h := h.1 z
    exact lm_vret C h (Nat.le_refl _) (Nat.le_refl _) dX2_ages_90
  · replace h := h.2 z
    refine gx_aload_n C dX2_ages_15 rfl 0 rfl ?_
    refine gw_get C hK in_X2 rfl ll_H0 5 (by decide) q240 rfl rfl dX2_ages_16 ?_
    refine gx_iload_n C dX2_ages_19 rfl 2 rfl ?_
    obtain ⟨g20, h⟩ := h
    refine al_rget C hK ll_ol g20 (cwV 1 C.t (lw_V q364 q365 q366 q123 q367) rfl rfl rfl ⟨rfl, dmJ2_get⟩ ⟨Nat.le_of_ble_eq_true rfl, Nat.le_of_ble_eq_true rfl⟩) (Nat.le_of_ble_eq_true rfl) ⟨Nat.zero_le _, Nat.zero_le _⟩ dX2_ages_20 (fun o20 e_o20 => ?_)
    replace h := h o20 e_o20
    have m_o20 : o20 ∈ ls_ow L := e_o20 ▸ al_mem g20
    refine gw_cast C hK (ci := 5) rfl (ll_Ho m_o20) q1213 dX2_ages_23 ?_
    refine gx_astore_n (lv' := [(3, .ref o20), (0, .ref (g 0)), (1, .int a1), (2, .int a2)]) C dX2_ages_26 rfl (by decide) rfl ?_
    refine gx_aload_n C dX2_ages_27 rfl 0 rfl ?_
    refine gw_getN C hK in_X6 rfl (ll_Ho m_o20) 6 (by decide) q1242 rfl rfl dX2_ages_28 ?_
    refine gx_if_eq (tgt := 84) C dX2_ages_31 (by decide) (fun z => ?_) (fun z => ?_)
    · replace h := h.1 z
      refine gx_sub [1, 2, 3] rfl ?_
      exact lb_X2_ages_84 C hK hG hA h hk10
    · replace h := h.2 z
      refine gx_aload_n C dX2_ages_34 rfl 0 rfl ?_
      refine gx_dup C dX2_ages_35 rfl ?_
      refine gw_getN C hK in_X6 rfl (ll_Ho m_o20) 4 (by decide) q1235 rfl rfl dX2_ages_36 ?_
      refine gx_iconst (v := 1) C dX2_ages_39 (by decide) ?_
      refine gx_iadd C dX2_ages_40 ?_
      refine gw_putN C hK in_X6 tyX6 tyX6_ok nmX6 rfl 4 (by decide) q1235 rfl rfl (fs := lo_fs L o20) (ty := .int) rfl rfl rfl (show 4 < 7 by decide) (ll_Uo4 _ m_o20) dX2_ages_41 ?_
      refine lm_name (fun L41 e_L41 => ?_)
      replace h := h L41 e_L41
      refine gx_aload_n C dX2_ages_44 rfl 0 rfl ?_
      obtain ⟨m45, h⟩ := h
      refine gw_getN C hK in_X6 rfl (ll_Ho m45) 4 (by decide) q1235 rfl rfl dX2_ages_45 ?_
      refine gx_bipush (v := 10) C dX2_ages_48 (by decide) ?_
      refine gx_icmp_ne (tgt := 62) C dX2_ages_50 (by decide) (fun z => ?_) (fun z => ?_)
      · replace h := h.2 z
        refine gx_aload_n C dX2_ages_62 rfl 0 rfl ?_
        refine gw_getN C hK in_X6 rfl (ll_Ho m45) 5 (by decide) q1238 rfl rfl dX2_ages_63 ?_
        refine gx_iconst (v := (-1)) C dX2_ages_66 (by decide) ?_
        refine gx_icmp_ne (tgt := 84) C dX2_ages_67 (by decide) (fun z => ?_) (fun z => ?_)
        · replace h := h.2 z
          refine gx_sub [1, 2, 3] rfl ?_
          exact lb_X2_ages_84 C hK hG hA h hk10
        · replace h := h.1 z
          refine gx_aload_n C dX2_ages_70 rfl 0 rfl ?_
          refine gw_getN C hK in_X6 rfl (ll_Ho m45) 4 (by decide) q1235 rfl rfl dX2_ages_71 ?_
          refine gx_iconst (v := 2) C dX2_ages_74 (by decide) ?_
          refine gx_icmp_lt (tgt := 84) C dX2_ages_75 (by decide) (fun z => ?_) (fun z => ?_)
          · replace h := h.1 z
            refine gx_sub [1, 2, 3] rfl ?_
            exact lb_X2_ages_84 C hK hG hA h hk10
          · replace h := h.2 z
            refine gx_aload_n C dX2_ages_78 rfl 1 rfl ?_
            refine gx_aload_n C dX2_ages_79 rfl 0 rfl ?_
            refine gx_iconst (v := 3) C dX2_ages_80 (by decide) ?_
            refine lm_callv (rest := []) C hK hG hA (fun Z sz => lk_X2_die h) (cwV 2 C.t (lw_V q1480 q1482 qs14 q120 q1483) rfl rfl rfl ⟨rfl, dmX2_die⟩ ⟨Nat.le_of_ble_eq_true rfl, Nat.le_of_ble_eq_true rfl⟩) rfl rfl (Nat.le_of_ble_eq_true rfl) ⟨Nat.zero_le _, Nat.zero_le _⟩ dX2_ages_81 (fun L81 h => ?_)
            refine gx_sub [1, 2, 3] rfl ?_
            exact lb_X2_ages_84 C hK hG hA h hk10
      · replace h := h.1 z
        refine gx_aload_n C dX2_ages_53 rfl 1 rfl ?_
        refine gx_aload_n C dX2_ages_54 rfl 0 rfl ?_
        refine gx_iconst (v := 2) C dX2_ages_55 (by decide) ?_
        refine lm_callv (rest := []) C hK hG hA (fun Z sz => lk_X2_die h) (cwV 2 C.t (lw_V q1480 q1482 qs14 q120 q1483) rfl rfl rfl ⟨rfl, dmX2_die⟩ ⟨Nat.le_of_ble_eq_true rfl, Nat.le_of_ble_eq_true rfl⟩) rfl rfl (Nat.le_of_ble_eq_true rfl) ⟨Nat.zero_le _, Nat.zero_le _⟩ dX2_ages_56 (fun L56 h => ?_)
        refine gx_goto (tgt := 84) C dX2_ages_59 (by decide) ?_
        refine gx_sub [1, 2, 3] rfl ?_
        exact lb_X2_ages_84 C hK hG hA h hk10
def ll_X2_ages_10 (Q : LSt → Prop) : Nat → LSt → Int32 → Int32 → Prop
  | 0, _, _, _ => False
  | n + 1, L, a1, a2 => lj_X2_ages_10 L a1 a2 (fun L a1 a2 => ll_X2_ages_10 Q n L a1 a2) Q
theorem le_X2_ages_10 {l : Launch} {p : Program} {e : Env} {s : State} {m : MethodId} {args : Array Value} {below : List Frame} {meth : Method} {c : Code} {D : va_G} {t0 : Nat} {g : Nat → Nat} {ca : Nat → ClassId} {A : Nat → Prop} (C : gx_C p s m args meth c cX2_ages 4 none RX2) (hK : gK D ca s) (hG : gZ t0 A s) (hA : ∀ q, s.heap.size ≤ q → A q) {Q : LSt → Prop}  (n : Nat) : ∀ (L : LSt) (a1 : Int32) (a2 : Int32), ll_X2_ages_10 Q n L a1 a2 → gx_W p l e (headSpec (ws_ yX2_ages cX2_ages 4 none) rmX2_ages).room s m args below meth c 4 (lm_I D t0 g ca A s L []) 0 0 (MQ below (va_Qv Q (lm_B D t0 g ca A) A) args s 0 0 A) 10 [(0, .ref (g 0)), (1, .int a1), (2, .int a2)] [] := by
  induction n with
  | zero => intro L a1 a2 h; exact False.elim h
  | succ n ih => intro L a1 a2 h; exact lb_X2_ages_10 C hK hG hA (show lj_X2_ages_10 L a1 a2 (fun L a1 a2 => ll_X2_ages_10 Q n L a1 a2) Q from h) (fun L a1 a2 h => ih L a1 a2 h)
def lw_X2_ages (L : LSt) (Q : LSt → Prop) : Prop :=
  ∃ n : Nat, ll_X2_ages_10 Q n L (nI (ls_ow L).length) 0
theorem lk_X2_ages {l : Launch} {D : va_G} {t0 : Nat} {g : Nat → Nat} {ca : Nat → ClassId} {Z : va_W} {sz : Nat} {L : LSt} {Q : LSt → Prop} (h : lw_X2_ages L Q) : lm_Met l yX2_ages cX2_ages 4 none rmX2_ages [] D t0 g ca Z sz L (va_Qv Q (lm_B D t0 g ca (va_A (lm_ws g ca L Z) sz)) (va_A (lm_ws g ca L Z) sz)) 0 0 := by
  refine lm_entry (by decide) (Nat.le_of_ble_eq_true rfl) (fun p e s m args below meth c A eA hA hG C hK => ?_)
  rw [eA]
  unfold lw_X2_ages at h
  show gx_W p l e (headSpec (ws_ yX2_ages cX2_ages 4 none) rmX2_ages).room s m args below meth c 4 (lm_I D t0 g ca A s L []) 0 0 (MQ below (va_Qv Q (lm_B D t0 g ca A) A) args s 0 0 A) 0 [(0, .ref (g 0))] []
  refine gx_aload_n C dX2_ages_0 rfl 0 rfl ?_
  refine gw_get C hK in_X2 rfl ll_H0 5 (by decide) q240 rfl rfl dX2_ages_1 ?_
  refine al_rsize (n := 0) C hK ll_ol (cwV 0 C.t (lw_V q360 q361 q362 q123 q363) rfl rfl rfl ⟨rfl, dmJ2_size⟩ ⟨Nat.le_of_ble_eq_true rfl, Nat.le_of_ble_eq_true rfl⟩) (Nat.le_of_ble_eq_true rfl) ⟨Nat.zero_le _, Nat.zero_le _⟩ dX2_ages_4 ?_
  refine gx_istore_n (lv' := [(1, .int (nI (ls_ow L).length)), (0, .ref (g 0))]) C dX2_ages_7 rfl (by decide) rfl ?_
  refine gx_iconst (v := 0) C dX2_ages_8 (by decide) ?_
  refine gx_istore_n (lv' := [(2, .int 0), (1, .int (nI (ls_ow L).length)), (0, .ref (g 0))]) C dX2_ages_9 rfl (by decide) rfl ?_
  refine gx_sub [2, 1, 0] rfl ?_
  obtain ⟨n, h⟩ := h
  exact le_X2_ages_10 C hK hG hA n L (nI (ls_ow L).length) 0 h
/-! Land.forget()V -/
abbrev rmX2_forget : Room := { frames := 7, cells := 0, slots := 0, locals := 223 }
theorem dmX2_forget : yX2_forget.cls ≠ "java/lang/invoke/MethodHandle" ∧ yX2_forget.cls ≠ "java/lang/invoke/VarHandle" ∧ (parseMethodDescriptor yX2_forget.desc).map (fun d => d.parameters.length) = some 0 := by decide +kernel
def lj_X2_forget_64 (L : LSt) (a1 : Int32) (k10 : LSt → Int32 → Prop) (Q : LSt → Prop) : Prop :=
  k10 L (a1 + (-1))
theorem lb_X2_forget_64 {l : Launch} {p : Program} {e : Env} {s : State} {m : MethodId} {args : Array Value} {below : List Frame} {meth : Method} {c : Code} {D : va_G} {t0 : Nat} {g : Nat → Nat} {ca : Nat → ClassId} {A : Nat → Prop} (C : gx_C p s m args meth c cX2_forget 2 none RX2) (hK : gK D ca s) (hG : gZ t0 A s) (hA : ∀ q, s.heap.size ≤ q → A q) {L : LSt} {a1 : Int32} {k10 : LSt → Int32 → Prop} {Q : LSt → Prop} (h : lj_X2_forget_64 L a1 k10 Q) (hk10 : ∀ (L : LSt) (a1 : Int32), k10 L a1 → gx_W p l e (headSpec (ws_ yX2_forget cX2_forget 2 none) rmX2_forget).room s m args below meth c 2 (lm_I D t0 g ca A s L []) 0 0 (MQ below (va_Qv Q (lm_B D t0 g ca A) A) args s 0 0 A) 10 [(0, .ref (g 0)), (1, .int a1)] []) : gx_W p l e (headSpec (ws_ yX2_forget cX2_forget 2 none) rmX2_forget).room s m args below meth c 2 (lm_I D t0 g ca A s L []) 0 0 (MQ below (va_Qv Q (lm_B D t0 g ca A) A) args s 0 0 A) 64 [(0, .ref (g 0)), (1, .int a1)] [] := by
  unfold lj_X2_forget_64 at h
  refine gx_iinc (v := a1 + (-1)) (k := 1) (lv' := [(1, .int (a1 + (-1))), (0, .ref (g 0))]) C dX2_forget_64 rfl rfl (by decide) rfl ?_
  refine gx_goto (tgt := 10) C dX2_forget_67 (by decide) ?_
  refine gx_sub [1, 0] rfl ?_
  exact hk10 L (a1 + (-1)) h
def lj_X2_forget_10 (L : LSt) (a1 : Int32) (k10 : LSt → Int32 → Prop) (Q : LSt → Prop) : Prop :=
  ((a1 < 0 → Q L) ∧ (¬ (a1 < 0) → (vp_in a1 (ls_ow L).length ∧ ∀ o19 : Nat, o19 = (ls_ow L).getD a1.toNatClampNeg 0 → (((ls_of L 6 o19) = 0 → (vp_in a1 (ls_ow L).length ∧ ∀ o36 : Nat, o36 = (ls_ow L).getD a1.toNatClampNeg 0 → ((((L.1 11) - 60) ≤ (ls_of L 0 o36) → lj_X2_forget_64 L a1 k10 Q) ∧ (¬ ((L.1 11) - 60) ≤ (ls_of L 0 o36) → (vp_in a1 (ls_ow L).length ∧ ∀ o60 : Nat, (∀ L60 : LSt, L60 = ls_rm L a1 → lj_X2_forget_64 L60 a1 k10 Q)))))) ∧ (¬ (ls_of L 6 o19) = 0 → lj_X2_forget_64 L a1 k10 Q)))))
theorem lb_X2_forget_10 {l : Launch} {p : Program} {e : Env} {s : State} {m : MethodId} {args : Array Value} {below : List Frame} {meth : Method} {c : Code} {D : va_G} {t0 : Nat} {g : Nat → Nat} {ca : Nat → ClassId} {A : Nat → Prop} (C : gx_C p s m args meth c cX2_forget 2 none RX2) (hK : gK D ca s) (hG : gZ t0 A s) (hA : ∀ q, s.heap.size ≤ q → A q) {L : LSt} {a1 : Int32} {k10 : LSt → Int32 → Prop} {Q : LSt → Prop} (h : lj_X2_forget_10 L a1 k10 Q) (hk10 : ∀ (L : LSt) (a1 : Int32), k10 L a1 → gx_W p l e (headSpec (ws_ yX2_forget cX2_forget 2 none) rmX2_forget).room s m args below meth c 2 (lm_I D t0 g ca A s L []) 0 0 (MQ below (va_Qv Q (lm_B D t0 g ca A) A) args s 0 0 A) 10 [(0, .ref (g 0)), (1, .int a1)] []) : gx_W p l e (headSpec (ws_ yX2_forget cX2_forget 2 none) rmX2_forget).room s m args below meth c 2 (lm_I D t0 g ca A s L []) 0 0 (MQ below (va_Qv Q (lm_B D t0 g ca A) A) args s 0 0 A) 10 [(0, .ref (g 0)), (1, .int a1)] [] := by
  unfold lj_X2_forget_10 at h
  refine gx_iload_n C dX2_forget_10 rfl 1 rfl ?_
  refine gx_if_lt (tgt := 70) C dX2_forget_11 (by decide) (fun z => ?_) (fun z => ?_)
  · replace h := h.1 z
    exact lm_vret C h (Nat.le_refl _) (Nat.le_refl _) dX2_forget_70
  · replace h := h.2 z
    refine gx_aload_n C dX2_forget_14 rfl 0 rfl ?_
    refine gw_get C hK in_X2 rfl ll_H0 5 (by decide) q240 rfl rfl dX2_forget_15 ?_
    refine gx_iload_n C dX2_forget_18 rfl 1 rfl ?_
    obtain ⟨g19, h⟩ := h
    refine al_rget C hK ll_ol g19 (cwV 1 C.t (lw_V q364 q365 q366 q123 q367) rfl rfl rfl ⟨rfl, dmJ2_get⟩ ⟨Nat.le_of_ble_eq_true rfl, Nat.le_of_ble_eq_true rfl⟩) (Nat.le_of_ble_eq_true rfl) ⟨Nat.zero_le _, Nat.zero_le _⟩ dX2_forget_19 (fun o19 e_o19 => ?_)
    replace h := h o19 e_o19
    have m_o19 : o19 ∈ ls_ow L := e_o19 ▸ al_mem g19
    refine gw_cast C hK (ci := 5) rfl (ll_Ho m_o19) q1213 dX2_forget_22 ?_
    refine gw_getN C hK in_X6 rfl (ll_Ho m_o19) 6 (by decide) q1242 rfl rfl dX2_forget_25 ?_
    refine gx_if_ne (tgt := 64) C dX2_forget_28 (by decide) (fun z => ?_) (fun z => ?_)
    · replace h := h.2 z
      exact lb_X2_forget_64 C hK hG hA h hk10
    · replace h := h.1 z
      refine gx_aload_n C dX2_forget_31 rfl 0 rfl ?_
      refine gw_get C hK in_X2 rfl ll_H0 5 (by decide) q240 rfl rfl dX2_forget_32 ?_
      refine gx_iload_n C dX2_forget_35 rfl 1 rfl ?_
      obtain ⟨g36, h⟩ := h
      refine al_rget C hK ll_ol g36 (cwV 1 C.t (lw_V q364 q365 q366 q123 q367) rfl rfl rfl ⟨rfl, dmJ2_get⟩ ⟨Nat.le_of_ble_eq_true rfl, Nat.le_of_ble_eq_true rfl⟩) (Nat.le_of_ble_eq_true rfl) ⟨Nat.zero_le _, Nat.zero_le _⟩ dX2_forget_36 (fun o36 e_o36 => ?_)
      replace h := h o36 e_o36
      have m_o36 : o36 ∈ ls_ow L := e_o36 ▸ al_mem g36
      refine gw_cast C hK (ci := 5) rfl (ll_Ho m_o36) q1213 dX2_forget_39 ?_
      refine gw_getN C hK in_X6 rfl (ll_Ho m_o36) 0 (by decide) q1225 rfl rfl dX2_forget_42 ?_
      refine gx_aload_n C dX2_forget_45 rfl 0 rfl ?_
      refine gw_get C hK in_X2 rfl ll_H0 11 (by decide) q252 rfl rfl dX2_forget_46 ?_
      refine gx_bipush (v := 60) C dX2_forget_49 (by decide) ?_
      refine gx_isub C dX2_forget_51 ?_
      refine gx_icmp_ge (tgt := 64) C dX2_forget_52 (by decide) (fun z => ?_) (fun z => ?_)
      · replace h := h.1 z
        exact lb_X2_forget_64 C hK hG hA h hk10
      · replace h := h.2 z
        refine gx_aload_n C dX2_forget_55 rfl 0 rfl ?_
        refine gw_get C hK in_X2 rfl ll_H0 5 (by decide) q240 rfl rfl dX2_forget_56 ?_
        refine gx_iload_n C dX2_forget_59 rfl 1 rfl ?_
        obtain ⟨g60, h⟩ := h
        refine lm_orem C hK hG hA g60 (cwV 1 C.t (lw_V q1547 q1548 q1549 q123 q1550) rfl rfl rfl ⟨rfl, dmJ2_remove⟩ ⟨Nat.le_of_ble_eq_true rfl, Nat.le_of_ble_eq_true rfl⟩) (Nat.le_of_ble_eq_true rfl) ⟨Nat.zero_le _, Nat.zero_le _⟩ dX2_forget_60 (fun o60 => ?_)
        replace h := h o60
        refine lm_name (fun L60 e_L60 => ?_)
        replace h := h L60 e_L60
        refine gx_pop C dX2_forget_63 rfl ?_
        exact lb_X2_forget_64 C hK hG hA h hk10
def ll_X2_forget_10 (Q : LSt → Prop) : Nat → LSt → Int32 → Prop
  | 0, _, _ => False
  | n + 1, L, a1 => lj_X2_forget_10 L a1 (fun L a1 => ll_X2_forget_10 Q n L a1) Q
theorem le_X2_forget_10 {l : Launch} {p : Program} {e : Env} {s : State} {m : MethodId} {args : Array Value} {below : List Frame} {meth : Method} {c : Code} {D : va_G} {t0 : Nat} {g : Nat → Nat} {ca : Nat → ClassId} {A : Nat → Prop} (C : gx_C p s m args meth c cX2_forget 2 none RX2) (hK : gK D ca s) (hG : gZ t0 A s) (hA : ∀ q, s.heap.size ≤ q → A q) {Q : LSt → Prop}  (n : Nat) : ∀ (L : LSt) (a1 : Int32), ll_X2_forget_10 Q n L a1 → gx_W p l e (headSpec (ws_ yX2_forget cX2_forget 2 none) rmX2_forget).room s m args below meth c 2 (lm_I D t0 g ca A s L []) 0 0 (MQ below (va_Qv Q (lm_B D t0 g ca A) A) args s 0 0 A) 10 [(0, .ref (g 0)), (1, .int a1)] [] := by
  induction n with
  | zero => intro L a1 h; exact False.elim h
  | succ n ih => intro L a1 h; exact lb_X2_forget_10 C hK hG hA (show lj_X2_forget_10 L a1 (fun L a1 => ll_X2_forget_10 Q n L a1) Q from h) (fun L a1 h => ih L a1 h)
def lw_X2_forget (L : LSt) (Q : LSt → Prop) : Prop :=
  ∃ n : Nat, ll_X2_forget_10 Q n L ((nI (ls_ow L).length) - 1)
theorem lk_X2_forget {l : Launch} {D : va_G} {t0 : Nat} {g : Nat → Nat} {ca : Nat → ClassId} {Z : va_W} {sz : Nat} {L : LSt} {Q : LSt → Prop} (h : lw_X2_forget L Q) : lm_Met l yX2_forget cX2_forget 2 none rmX2_forget [] D t0 g ca Z sz L (va_Qv Q (lm_B D t0 g ca (va_A (lm_ws g ca L Z) sz)) (va_A (lm_ws g ca L Z) sz)) 0 0 := by
  refine lm_entry (by decide) (Nat.le_of_ble_eq_true rfl) (fun p e s m args below meth c A eA hA hG C hK => ?_)
  rw [eA]
  unfold lw_X2_forget at h
  show gx_W p l e (headSpec (ws_ yX2_forget cX2_forget 2 none) rmX2_forget).room s m args below meth c 2 (lm_I D t0 g ca A s L []) 0 0 (MQ below (va_Qv Q (lm_B D t0 g ca A) A) args s 0 0 A) 0 [(0, .ref (g 0))] []
  refine gx_aload_n C dX2_forget_0 rfl 0 rfl ?_
  refine gw_get C hK in_X2 rfl ll_H0 5 (by decide) q240 rfl rfl dX2_forget_1 ?_
  refine al_rsize (n := 0) C hK ll_ol (cwV 0 C.t (lw_V q360 q361 q362 q123 q363) rfl rfl rfl ⟨rfl, dmJ2_size⟩ ⟨Nat.le_of_ble_eq_true rfl, Nat.le_of_ble_eq_true rfl⟩) (Nat.le_of_ble_eq_true rfl) ⟨Nat.zero_le _, Nat.zero_le _⟩ dX2_forget_4 ?_
  refine gx_iconst (v := 1) C dX2_forget_7 (by decide) ?_
  refine gx_isub C dX2_forget_8 ?_
  refine gx_istore_n (lv' := [(1, .int ((nI (ls_ow L).length) - 1)), (0, .ref (g 0))]) C dX2_forget_9 rfl (by decide) rfl ?_
  refine gx_sub [1, 0] rfl ?_
  obtain ⟨n, h⟩ := h
  exact le_X2_forget_10 C hK hG hA n L ((nI (ls_ow L).length) - 1) h
/-! Land.takeOut(LOwlYears$Owl;)V -/
abbrev rmX2_takeOut : Room := { frames := 8, cells := 0, slots := 0, locals := 244 }
theorem dmX2_takeOut : yX2_takeOut.cls ≠ "java/lang/invoke/MethodHandle" ∧ yX2_takeOut.cls ≠ "java/lang/invoke/VarHandle" ∧ (parseMethodDescriptor yX2_takeOut.desc).map (fun d => d.parameters.length) = some 1 := by decide +kernel
def lw_X2_takeOut (L : LSt) (a1 : Nat) (Q : LSt → Prop) : Prop :=
  lw_X2_leave L a1 (fun L2 => (∀ L12 : LSt, L12 = ls_s L2 15 ((L2.1 15) + 1) → lw_X2_forget L12 (fun L16 => Q L16)))
theorem lk_X2_takeOut {l : Launch} {D : va_G} {t0 : Nat} {g : Nat → Nat} {ca : Nat → ClassId} {Z : va_W} {sz : Nat} {L : LSt} {a1 : Nat} {Q : LSt → Prop} (h : lw_X2_takeOut L a1 Q) : lm_Met l yX2_takeOut cX2_takeOut 2 none rmX2_takeOut [.ref a1] D t0 g ca Z sz L (va_Qv Q (lm_B D t0 g ca (va_A (lm_ws g ca L Z) sz)) (va_A (lm_ws g ca L Z) sz)) 0 0 := by
  refine lm_entry (by decide) (Nat.le_of_ble_eq_true rfl) (fun p e s m args below meth c A eA hA hG C hK => ?_)
  rw [eA]
  unfold lw_X2_takeOut at h
  show gx_W p l e (headSpec (ws_ yX2_takeOut cX2_takeOut 2 none) rmX2_takeOut).room s m args below meth c 2 (lm_I D t0 g ca A s L []) 0 0 (MQ below (va_Qv Q (lm_B D t0 g ca A) A) args s 0 0 A) 0 [(0, .ref (g 0)), (1, .ref a1)] []
  refine gx_aload_n C dX2_takeOut_0 rfl 0 rfl ?_
  refine gx_aload_n C dX2_takeOut_1 rfl 1 rfl ?_
  refine lm_callv (rest := []) C hK hG hA (fun Z sz => lk_X2_leave h) (cwV 1 C.t (lw_V q1484 q1486 qs15 q120 q1487) rfl rfl rfl ⟨rfl, dmX2_leave⟩ ⟨Nat.le_of_ble_eq_true rfl, Nat.le_of_ble_eq_true rfl⟩) rfl rfl (Nat.le_of_ble_eq_true rfl) ⟨Nat.zero_le _, Nat.zero_le _⟩ dX2_takeOut_2 (fun L2 h => ?_)
  refine gx_aload_n C dX2_takeOut_5 rfl 0 rfl ?_
  refine gx_dup C dX2_takeOut_6 rfl ?_
  refine gw_get C hK in_X2 rfl ll_H0 15 (by decide) q259 rfl rfl dX2_takeOut_7 ?_
  refine gx_iconst (v := 1) C dX2_takeOut_10 (by decide) ?_
  refine gx_iadd C dX2_takeOut_11 ?_
  refine gw_put C hK in_X2 tyX2 tyX2_ok nmX2 rfl 15 (by decide) q259 rfl rfl (fs := ls_fs g L2) (ty := .int) rfl rfl rfl (show 15 < 18 by decide) (ll_Us15 _) dX2_takeOut_12 ?_
  refine lm_name (fun L12 e_L12 => ?_)
  replace h := h L12 e_L12
  refine gx_aload_n C dX2_takeOut_15 rfl 0 rfl ?_
  refine lm_callv (rest := []) C hK hG hA (fun Z sz => lk_X2_forget h) (cwV 0 C.t (lw_V q1543 q1545 qs25 q120 q1546) rfl rfl rfl ⟨rfl, dmX2_forget⟩ ⟨Nat.le_of_ble_eq_true rfl, Nat.le_of_ble_eq_true rfl⟩) rfl rfl (Nat.le_of_ble_eq_true rfl) ⟨Nat.zero_le _, Nat.zero_le _⟩ dX2_takeOut_16 (fun L16 h => ?_)
  exact lm_vret C h (Nat.le_refl _) (Nat.le_refl _) dX2_takeOut_19
/-! Land.canLetIn(II)Z -/
abbrev rmX2_canLetIn : Room := { frames := 4, cells := 0, slots := 0, locals := 85 }
theorem dmX2_canLetIn : yX2_canLetIn.cls ≠ "java/lang/invoke/MethodHandle" ∧ yX2_canLetIn.cls ≠ "java/lang/invoke/VarHandle" ∧ (parseMethodDescriptor yX2_canLetIn.desc).map (fun d => d.parameters.length) = some 2 := by decide +kernel
def lj_X2_canLetIn_28 (L : LSt) (s0 : Int32) (Q : Int32 → LSt → Prop) : Prop :=
  (narrow .boolean (.int s0) = .int s0 ∧ Q s0 L)
theorem lb_X2_canLetIn_28 {l : Launch} {p : Program} {e : Env} {s : State} {m : MethodId} {args : Array Value} {below : List Frame} {meth : Method} {c : Code} {D : va_G} {t0 : Nat} {g : Nat → Nat} {ca : Nat → ClassId} {A : Nat → Prop} (C : gx_C p s m args meth c cX2_canLetIn 3 (some .boolean) RX2) (hK : gK D ca s) (hG : gZ t0 A s) (hA : ∀ q, s.heap.size ≤ q → A q) {L : LSt} {s0 : Int32} {Q : Int32 → LSt → Prop} (h : lj_X2_canLetIn_28 L s0 Q)  : gx_W p l e (headSpec (ws_ yX2_canLetIn cX2_canLetIn 3 (some .boolean)) rmX2_canLetIn).room s m args below meth c 3 (lm_I D t0 g ca A s L []) 0 0 (MQ below (va_Qi Q (lm_B D t0 g ca A) A) args s 0 0 A) 28 [] [.int s0] := by
  unfold lj_X2_canLetIn_28 at h
  obtain ⟨g28, h⟩ := h
  exact lm_zret C g28 h (Nat.le_refl _) (Nat.le_refl _) dX2_canLetIn_28
def lj_X2_canLetIn_27 (L : LSt) (Q : Int32 → LSt → Prop) : Prop :=
  lj_X2_canLetIn_28 L 0 Q
theorem lb_X2_canLetIn_27 {l : Launch} {p : Program} {e : Env} {s : State} {m : MethodId} {args : Array Value} {below : List Frame} {meth : Method} {c : Code} {D : va_G} {t0 : Nat} {g : Nat → Nat} {ca : Nat → ClassId} {A : Nat → Prop} (C : gx_C p s m args meth c cX2_canLetIn 3 (some .boolean) RX2) (hK : gK D ca s) (hG : gZ t0 A s) (hA : ∀ q, s.heap.size ≤ q → A q) {L : LSt} {Q : Int32 → LSt → Prop} (h : lj_X2_canLetIn_27 L Q)  : gx_W p l e (headSpec (ws_ yX2_canLetIn cX2_canLetIn 3 (some .boolean)) rmX2_canLetIn).room s m args below meth c 3 (lm_I D t0 g ca A s L []) 0 0 (MQ below (va_Qi Q (lm_B D t0 g ca A) A) args s 0 0 A) 27 [] [] := by
  unfold lj_X2_canLetIn_27 at h
  refine gx_iconst (v := 0) C dX2_canLetIn_27 (by decide) ?_
  exact lb_X2_canLetIn_28 C hK hG hA h
def lw_X2_canLetIn (L : LSt) (a1 : Int32) (a2 : Int32) (Q : Int32 → LSt → Prop) : Prop :=
  ((40 ≤ (L.1 12) → lj_X2_canLetIn_27 L Q) ∧ (¬ (40 ≤ (L.1 12)) → lw_X2_box L a1 (fun r11 L11 => (∃ o14 : Nat, r11 = some o14 ∧ (o14 ∈ ls_bx L11 ∧ (vp_in a2 2 ∧ (((ls_br L11 o14 a2.toNatClampNeg) = (-1) → lj_X2_canLetIn_28 L11 1 Q) ∧ (¬ (ls_br L11 o14 a2.toNatClampNeg) = (-1) → lj_X2_canLetIn_27 L11 Q))))))))
theorem lk_X2_canLetIn {l : Launch} {D : va_G} {t0 : Nat} {g : Nat → Nat} {ca : Nat → ClassId} {Z : va_W} {sz : Nat} {L : LSt} {a1 : Int32} {a2 : Int32} {Q : Int32 → LSt → Prop} (h : lw_X2_canLetIn L a1 a2 Q) : lm_Met l yX2_canLetIn cX2_canLetIn 3 (some .boolean) rmX2_canLetIn [.int a1, .int a2] D t0 g ca Z sz L (va_Qi Q (lm_B D t0 g ca (va_A (lm_ws g ca L Z) sz)) (va_A (lm_ws g ca L Z) sz)) 0 0 := by
  refine lm_entry (by decide) (Nat.le_of_ble_eq_true rfl) (fun p e s m args below meth c A eA hA hG C hK => ?_)
  rw [eA]
  unfold lw_X2_canLetIn at h
  show gx_W p l e (headSpec (ws_ yX2_canLetIn cX2_canLetIn 3 (some .boolean)) rmX2_canLetIn).room s m args below meth c 3 (lm_I D t0 g ca A s L []) 0 0 (MQ below (va_Qi Q (lm_B D t0 g ca A) A) args s 0 0 A) 0 [(0, .ref (g 0)), (1, .int a1), (2, .int a2)] []
  refine gx_aload_n C dX2_canLetIn_0 rfl 0 rfl ?_
  refine gw_get C hK in_X2 rfl ll_H0 12 (by decide) q254 rfl rfl dX2_canLetIn_1 ?_
  refine gx_bipush (v := 40) C dX2_canLetIn_4 (by decide) ?_
  refine gx_icmp_ge (tgt := 27) C dX2_canLetIn_6 (by decide) (fun z => ?_) (fun z => ?_)
  · replace h := h.1 z
    refine gx_sub [] rfl ?_
    exact lb_X2_canLetIn_27 C hK hG hA h
  · replace h := h.2 z
    refine gx_aload_n C dX2_canLetIn_9 rfl 0 rfl ?_
    refine gx_iload_n C dX2_canLetIn_10 rfl 1 rfl ?_
    refine lm_callq (rest := []) C hK hG hA (fun Z sz => lk_X2_box h) (cwV 1 C.t (lw_V q1488 q1489 q1490 q120 q1491) rfl rfl rfl ⟨rfl, dmX2_box⟩ ⟨Nat.le_of_ble_eq_true rfl, Nat.le_of_ble_eq_true rfl⟩) rfl rfl (Nat.le_of_ble_eq_true rfl) ⟨Nat.zero_le _, Nat.zero_le _⟩ dX2_canLetIn_11 (fun r11 L11 h => ?_)
    obtain ⟨o14, e_o14, h⟩ := h
    have hh := h; subst e_o14; have h := hh; clear hh
    obtain ⟨m14, h⟩ := h
    refine gw_getN C hK in_X5 rfl (ll_Hb m14) 1 (by decide) q393 rfl rfl dX2_canLetIn_14 ?_
    refine gx_iload_n C dX2_canLetIn_17 rfl 2 rfl ?_
    obtain ⟨g18, h⟩ := h
    refine gw_iald C hK (ll_Hr m14) g18 dX2_canLetIn_18 ?_
    refine gx_iconst (v := (-1)) C dX2_canLetIn_19 (by decide) ?_
    refine gx_icmp_ne (tgt := 27) C dX2_canLetIn_20 (by decide) (fun z => ?_) (fun z => ?_)
    · replace h := h.2 z
      refine gx_sub [] rfl ?_
      exact lb_X2_canLetIn_27 C hK hG hA h
    · replace h := h.1 z
      refine gx_iconst (v := 1) C dX2_canLetIn_23 (by decide) ?_
      refine gx_goto (tgt := 28) C dX2_canLetIn_24 (by decide) ?_
      refine gx_sub [] rfl ?_
      exact lb_X2_canLetIn_28 C hK hG hA h
/-! Land.children(I)I -/
abbrev rmX2_children : Room := { frames := 3, cells := 0, slots := 0, locals := 64 }
theorem dmX2_children : yX2_children.cls ≠ "java/lang/invoke/MethodHandle" ∧ yX2_children.cls ≠ "java/lang/invoke/VarHandle" ∧ (parseMethodDescriptor yX2_children.desc).map (fun d => d.parameters.length) = some 1 := by decide +kernel
def lj_X2_children_13 (L : LSt) (a1 : Int32) (a2 : Int32) (a3 : Int32) (a4 : Int32) (k13 : LSt → Int32 → Int32 → Int32 → Int32 → Prop) (Q : Int32 → LSt → Prop) : Prop :=
  ((a3 ≤ a4 → Q a2 L) ∧ (¬ (a3 ≤ a4) → (vp_in a4 (ls_ow L).length ∧ ∀ o26 : Nat, o26 = (ls_ow L).getD a4.toNatClampNeg 0 → rw_X6_isChildOf (ls_of L 2 o26) (ls_of L 3 o26) a1 (fun r33 => k13 L a1 (a2 + (if r33 = 0 then 0 else 1)) a3 (a4 + 1)))))
theorem lb_X2_children_13 {l : Launch} {p : Program} {e : Env} {s : State} {m : MethodId} {args : Array Value} {below : List Frame} {meth : Method} {c : Code} {D : va_G} {t0 : Nat} {g : Nat → Nat} {ca : Nat → ClassId} {A : Nat → Prop} (C : gx_C p s m args meth c cX2_children 5 (some .int) RX2) (hK : gK D ca s) (hG : gZ t0 A s) (hA : ∀ q, s.heap.size ≤ q → A q) {L : LSt} {a1 : Int32} {a2 : Int32} {a3 : Int32} {a4 : Int32} {k13 : LSt → Int32 → Int32 → Int32 → Int32 → Prop} {Q : Int32 → LSt → Prop} (h : lj_X2_children_13 L a1 a2 a3 a4 k13 Q) (hk13 : ∀ (L : LSt) (a1 : Int32) (a2 : Int32) (a3 : Int32) (a4 : Int32), k13 L a1 a2 a3 a4 → gx_W p l e (headSpec (ws_ yX2_children cX2_children 5 (some .int)) rmX2_children).room s m args below meth c 5 (lm_I D t0 g ca A s L []) 0 0 (MQ below (va_Qi Q (lm_B D t0 g ca A) A) args s 0 0 A) 13 [(0, .ref (g 0)), (1, .int a1), (2, .int a2), (3, .int a3), (4, .int a4)] []) : gx_W p l e (headSpec (ws_ yX2_children cX2_children 5 (some .int)) rmX2_children).room s m args below meth c 5 (lm_I D t0 g ca A s L []) 0 0 (MQ below (va_Qi Q (lm_B D t0 g ca A) A) args s 0 0 A) 13 [(0, .ref (g 0)), (1, .int a1), (2, .int a2), (3, .int a3), (4, .int a4)] [] := by
  unfold lj_X2_children_13 at h
  refine gx_iload C dX2_children_13 4 rfl ?_
  refine gx_iload_n C dX2_children_15 rfl 3 rfl ?_
  refine gx_icmp_ge (tgt := 52) C dX2_children_16 (by decide) (fun z => ?_) (fun z => ?_)
  · replace h := h.1 z
    refine gx_iload_n C dX2_children_52 rfl 2 rfl ?_
    exact lm_iret C h (Nat.le_refl _) (Nat.le_refl _) dX2_children_53
  · replace h := h.2 z
    refine gx_iload_n C dX2_children_19 rfl 2 rfl ?_
    refine gx_aload_n C dX2_children_20 rfl 0 rfl ?_
    refine gw_get C hK in_X2 rfl ll_H0 5 (by decide) q240 rfl rfl dX2_children_21 ?_
    refine gx_iload C dX2_children_24 4 rfl ?_
    obtain ⟨g26, h⟩ := h
    refine al_rget C hK ll_ol g26 (cwV 1 C.t (lw_V q364 q365 q366 q123 q367) rfl rfl rfl ⟨rfl, dmJ2_get⟩ ⟨Nat.le_of_ble_eq_true rfl, Nat.le_of_ble_eq_true rfl⟩) (Nat.le_of_ble_eq_true rfl) ⟨Nat.zero_le _, Nat.zero_le _⟩ dX2_children_26 (fun o26 e_o26 => ?_)
    replace h := h o26 e_o26
    have m_o26 : o26 ∈ ls_ow L := e_o26 ▸ al_mem g26
    refine gw_cast C hK (ci := 5) rfl (ll_Ho m_o26) q1213 dX2_children_29 ?_
    refine gx_iload_n C dX2_children_32 rfl 1 rfl ?_
    refine gw_roi (rest := [.int a2]) C (rk_X6_isChildOf h) (cwV 1 C.t (lw_V q1357 q1358 q1359 q155 q1360) rfl rfl rfl ⟨rfl, dmX6_isChildOf⟩ ⟨Nat.le_of_ble_eq_true rfl, Nat.le_of_ble_eq_true rfl⟩) (ro_pre hK (ci := 5) (q := (RX6, TX6, 7)) rfl (ll_Ho m_o26) (lm_ows m_o26)) rfl rfl (Nat.le_of_ble_eq_true rfl) ⟨Nat.zero_le _, Nat.zero_le _⟩ dX2_children_33 (fun r33 h => ?_)
    refine gx_phii (t := (if r33 = 0 then 0 else 1)) (pc2 := 44) (lv2 := [(0, .ref (g 0)), (1, .int a1), (2, .int a2), (3, .int a3), (4, .int a4)]) (rest2 := [.int a2]) (fun key => ?_) ?_
    · refine gx_if_eq (tgt := 43) C dX2_children_36 (by decide) (fun z1 => ?_) (fun z1 => ?_)
      · refine gx_iconst (v := 0) C dX2_children_43 (by decide) ?_
        exact gx_casti (if_pos z1) key
      · refine gx_iconst (v := 1) C dX2_children_39 (by decide) ?_
        refine gx_goto (tgt := 44) C dX2_children_40 (by decide) ?_
        exact gx_casti (if_neg z1) key
    refine gx_iadd C dX2_children_44 ?_
    refine gx_istore_n (lv' := [(2, .int (a2 + (if r33 = 0 then 0 else 1))), (0, .ref (g 0)), (1, .int a1), (3, .int a3), (4, .int a4)]) C dX2_children_45 rfl (by decide) rfl ?_
    refine gx_iinc (v := a4 + 1) (k := 4) (lv' := [(4, .int (a4 + 1)), (2, .int (a2 + (if r33 = 0 then 0 else 1))), (0, .ref (g 0)), (1, .int a1), (3, .int a3)]) C dX2_children_46 rfl rfl (by decide) rfl ?_
    refine gx_goto (tgt := 13) C dX2_children_49 (by decide) ?_
    refine gx_sub [2, 3, 1, 4, 0] rfl ?_
    exact hk13 L a1 (a2 + (if r33 = 0 then 0 else 1)) a3 (a4 + 1) h
def ll_X2_children_13 (Q : Int32 → LSt → Prop) : Nat → LSt → Int32 → Int32 → Int32 → Int32 → Prop
  | 0, _, _, _, _, _ => False
  | n + 1, L, a1, a2, a3, a4 => lj_X2_children_13 L a1 a2 a3 a4 (fun L a1 a2 a3 a4 => ll_X2_children_13 Q n L a1 a2 a3 a4) Q
theorem le_X2_children_13 {l : Launch} {p : Program} {e : Env} {s : State} {m : MethodId} {args : Array Value} {below : List Frame} {meth : Method} {c : Code} {D : va_G} {t0 : Nat} {g : Nat → Nat} {ca : Nat → ClassId} {A : Nat → Prop} (C : gx_C p s m args meth c cX2_children 5 (some .int) RX2) (hK : gK D ca s) (hG : gZ t0 A s) (hA : ∀ q, s.heap.size ≤ q → A q) {Q : Int32 → LSt → Prop}  (n : Nat) : ∀ (L : LSt) (a1 : Int32) (a2 : Int32) (a3 : Int32) (a4 : Int32), ll_X2_children_13 Q n L a1 a2 a3 a4 → gx_W p l e (headSpec (ws_ yX2_children cX2_children 5 (some .int)) rmX2_children).room s m args below meth c 5 (lm_I D t0 g ca A s L []) 0 0 (MQ below (va_Qi Q (lm_B D t0 g ca A) A) args s 0 0 A) 13 [(0, .ref (g 0)), (1, .int a1), (2, .int a2), (3, .int a3), (4, .int a4)] [] := by
  induction n with
  | zero => intro L a1 a2 a3 a4 h; exact False.elim h
  | succ n ih => intro L a1 a2 a3 a4 h; exact lb_X2_children_13 C hK hG hA (show lj_X2_children_13 L a1 a2 a3 a4 (fun L a1 a2 a3 a4 => ll_X2_children_13 Q n L a1 a2 a3 a4) Q from h) (fun L a1 a2 a3 a4 h => ih L a1 a2 a3 a4 h)
def lw_X2_children (L : LSt) (a1 : Int32) (Q : Int32 → LSt → Prop) : Prop :=
  ∃ n : Nat, ll_X2_children_13 Q n L a1 0 (nI (ls_ow L).length) 0
theorem lk_X2_children {l : Launch} {D : va_G} {t0 : Nat} {g : Nat → Nat} {ca : Nat → ClassId} {Z : va_W} {sz : Nat} {L : LSt} {a1 : Int32} {Q : Int32 → LSt → Prop} (h : lw_X2_children L a1 Q) : lm_Met l yX2_children cX2_children 5 (some .int) rmX2_children [.int a1] D t0 g ca Z sz L (va_Qi Q (lm_B D t0 g ca (va_A (lm_ws g ca L Z) sz)) (va_A (lm_ws g ca L Z) sz)) 0 0 := by
  refine lm_entry (by decide) (Nat.le_of_ble_eq_true rfl) (fun p e s m args below meth c A eA hA hG C hK => ?_)
  rw [eA]
  unfold lw_X2_children at h
  show gx_W p l e (headSpec (ws_ yX2_children cX2_children 5 (some .int)) rmX2_children).room s m args below meth c 5 (lm_I D t0 g ca A s L []) 0 0 (MQ below (va_Qi Q (lm_B D t0 g ca A) A) args s 0 0 A) 0 [(0, .ref (g 0)), (1, .int a1)] []
  refine gx_iconst (v := 0) C dX2_children_0 (by decide) ?_
  refine gx_istore_n (lv' := [(2, .int 0), (0, .ref (g 0)), (1, .int a1)]) C dX2_children_1 rfl (by decide) rfl ?_
  refine gx_aload_n C dX2_children_2 rfl 1 rfl ?_
  refine gw_get C hK in_X2 rfl ll_H0 5 (by decide) q240 rfl rfl dX2_children_3 ?_
  refine al_rsize (n := 0) C hK ll_ol (cwV 0 C.t (lw_V q360 q361 q362 q123 q363) rfl rfl rfl ⟨rfl, dmJ2_size⟩ ⟨Nat.le_of_ble_eq_true rfl, Nat.le_of_ble_eq_true rfl⟩) (Nat.le_of_ble_eq_true rfl) ⟨Nat.zero_le _, Nat.zero_le _⟩ dX2_children_6 ?_
  refine gx_istore_n (lv' := [(3, .int (nI (ls_ow L).length)), (2, .int 0), (0, .ref (g 0)), (1, .int a1)]) C dX2_children_9 rfl (by decide) rfl ?_
  refine gx_iconst (v := 0) C dX2_children_10 (by decide) ?_
  refine gx_istore (lv' := [(4, .int 0), (3, .int (nI (ls_ow L).length)), (2, .int 0), (0, .ref (g 0)), (1, .int a1)]) C dX2_children_11 (by decide) rfl ?_
  refine gx_sub [3, 4, 2, 1, 0] rfl ?_
  obtain ⟨n, h⟩ := h
  exact le_X2_children_13 C hK hG hA n L a1 0 (nI (ls_ow L).length) 0 h
/-! Land.placeOf(I)I -/
abbrev rmX2_placeOf : Room := { frames := 3, cells := 0, slots := 0, locals := 64 }
theorem dmX2_placeOf : yX2_placeOf.cls ≠ "java/lang/invoke/MethodHandle" ∧ yX2_placeOf.cls ≠ "java/lang/invoke/VarHandle" ∧ (parseMethodDescriptor yX2_placeOf.desc).map (fun d => d.parameters.length) = some 1 := by decide +kernel
def lj_X2_placeOf_2 (L : LSt) (a1 : Int32) (a2 : Int32) (k2 : LSt → Int32 → Int32 → Prop) (Q : Int32 → LSt → Prop) : Prop :=
  (vp_in a2 (ls_ow L).length ∧ ∀ o7 : Nat, o7 = (ls_ow L).getD a2.toNatClampNeg 0 → (((ls_of L 0 o7) = a1 → Q a2 L) ∧ (¬ (ls_of L 0 o7) = a1 → k2 L a1 (a2 + 1))))
theorem lb_X2_placeOf_2 {l : Launch} {p : Program} {e : Env} {s : State} {m : MethodId} {args : Array Value} {below : List Frame} {meth : Method} {c : Code} {D : va_G} {t0 : Nat} {g : Nat → Nat} {ca : Nat → ClassId} {A : Nat → Prop} (C : gx_C p s m args meth c cX2_placeOf 3 (some .int) RX2) (hK : gK D ca s) (hG : gZ t0 A s) (hA : ∀ q, s.heap.size ≤ q → A q) {L : LSt} {a1 : Int32} {a2 : Int32} {k2 : LSt → Int32 → Int32 → Prop} {Q : Int32 → LSt → Prop} (h : lj_X2_placeOf_2 L a1 a2 k2 Q) (hk2 : ∀ (L : LSt) (a1 : Int32) (a2 : Int32), k2 L a1 a2 → gx_W p l e (headSpec (ws_ yX2_placeOf cX2_placeOf 3 (some .int)) rmX2_placeOf).room s m args below meth c 3 (lm_I D t0 g ca A s L []) 0 0 (MQ below (va_Qi Q (lm_B D t0 g ca A) A) args s 0 0 A) 2 [(0, .ref (g 0)), (1, .int a1), (2, .int a2)] []) : gx_W p l e (headSpec (ws_ yX2_placeOf cX2_placeOf 3 (some .int)) rmX2_placeOf).room s m args below meth c 3 (lm_I D t0 g ca A s L []) 0 0 (MQ below (va_Qi Q (lm_B D t0 g ca A) A) args s 0 0 A) 2 [(0, .ref (g 0)), (1, .int a1), (2, .int a2)] [] := by
  unfold lj_X2_placeOf_2 at h
  refine gx_aload_n C dX2_placeOf_2 rfl 0 rfl ?_
  refine gw_get C hK in_X2 rfl ll_H0 5 (by decide) q240 rfl rfl dX2_placeOf_3 ?_
  refine gx_iload_n C dX2_placeOf_6 rfl 2 rfl ?_
  obtain ⟨g7, h⟩ := h
  refine al_rget C hK ll_ol g7 (cwV 1 C.t (lw_V q364 q365 q366 q123 q367) rfl rfl rfl ⟨rfl, dmJ2_get⟩ ⟨Nat.le_of_ble_eq_true rfl, Nat.le_of_ble_eq_true rfl⟩) (Nat.le_of_ble_eq_true rfl) ⟨Nat.zero_le _, Nat.zero_le _⟩ dX2_placeOf_7 (fun o7 e_o7 => ?_)
  replace h := h o7 e_o7
  have m_o7 : o7 ∈ ls_ow L := e_o7 ▸ al_mem g7
  refine gw_cast C hK (ci := 5) rfl (ll_Ho m_o7) q1213 dX2_placeOf_10 ?_
  refine gw_getN C hK in_X6 rfl (ll_Ho m_o7) 0 (by decide) q1225 rfl rfl dX2_placeOf_13 ?_
  refine gx_iload_n C dX2_placeOf_16 rfl 1 rfl ?_
  refine gx_icmp_eq (tgt := 26) C dX2_placeOf_17 (by decide) (fun z => ?_) (fun z => ?_)
  · replace h := h.1 z
    refine gx_iload_n C dX2_placeOf_26 rfl 2 rfl ?_
    exact lm_iret C h (Nat.le_refl _) (Nat.le_refl _) dX2_placeOf_27
  · replace h := h.2 z
    refine gx_iinc (v := a2 + 1) (k := 2) (lv' := [(2, .int (a2 + 1)), (0, .ref (g 0)), (1, .int a1)]) C dX2_placeOf_20 rfl rfl (by decide) rfl ?_
    refine gx_goto (tgt := 2) C dX2_placeOf_23 (by decide) ?_
    refine gx_sub [1, 2, 0] rfl ?_
    exact hk2 L a1 (a2 + 1) h
def ll_X2_placeOf_2 (Q : Int32 → LSt → Prop) : Nat → LSt → Int32 → Int32 → Prop
  | 0, _, _, _ => False
  | n + 1, L, a1, a2 => lj_X2_placeOf_2 L a1 a2 (fun L a1 a2 => ll_X2_placeOf_2 Q n L a1 a2) Q
theorem le_X2_placeOf_2 {l : Launch} {p : Program} {e : Env} {s : State} {m : MethodId} {args : Array Value} {below : List Frame} {meth : Method} {c : Code} {D : va_G} {t0 : Nat} {g : Nat → Nat} {ca : Nat → ClassId} {A : Nat → Prop} (C : gx_C p s m args meth c cX2_placeOf 3 (some .int) RX2) (hK : gK D ca s) (hG : gZ t0 A s) (hA : ∀ q, s.heap.size ≤ q → A q) {Q : Int32 → LSt → Prop}  (n : Nat) : ∀ (L : LSt) (a1 : Int32) (a2 : Int32), ll_X2_placeOf_2 Q n L a1 a2 → gx_W p l e (headSpec (ws_ yX2_placeOf cX2_placeOf 3 (some .int)) rmX2_placeOf).room s m args below meth c 3 (lm_I D t0 g ca A s L []) 0 0 (MQ below (va_Qi Q (lm_B D t0 g ca A) A) args s 0 0 A) 2 [(0, .ref (g 0)), (1, .int a1), (2, .int a2)] [] := by
  induction n with
  | zero => intro L a1 a2 h; exact False.elim h
  | succ n ih => intro L a1 a2 h; exact lb_X2_placeOf_2 C hK hG hA (show lj_X2_placeOf_2 L a1 a2 (fun L a1 a2 => ll_X2_placeOf_2 Q n L a1 a2) Q from h) (fun L a1 a2 h => ih L a1 a2 h)
def lw_X2_placeOf (L : LSt) (a1 : Int32) (Q : Int32 → LSt → Prop) : Prop :=
  ∃ n : Nat, ll_X2_placeOf_2 Q n L a1 0
theorem lk_X2_placeOf {l : Launch} {D : va_G} {t0 : Nat} {g : Nat → Nat} {ca : Nat → ClassId} {Z : va_W} {sz : Nat} {L : LSt} {a1 : Int32} {Q : Int32 → LSt → Prop} (h : lw_X2_placeOf L a1 Q) : lm_Met l yX2_placeOf cX2_placeOf 3 (some .int) rmX2_placeOf [.int a1] D t0 g ca Z sz L (va_Qi Q (lm_B D t0 g ca (va_A (lm_ws g ca L Z) sz)) (va_A (lm_ws g ca L Z) sz)) 0 0 := by
  refine lm_entry (by decide) (Nat.le_of_ble_eq_true rfl) (fun p e s m args below meth c A eA hA hG C hK => ?_)
  rw [eA]
  unfold lw_X2_placeOf at h
  show gx_W p l e (headSpec (ws_ yX2_placeOf cX2_placeOf 3 (some .int)) rmX2_placeOf).room s m args below meth c 3 (lm_I D t0 g ca A s L []) 0 0 (MQ below (va_Qi Q (lm_B D t0 g ca A) A) args s 0 0 A) 0 [(0, .ref (g 0)), (1, .int a1)] []
  refine gx_iconst (v := 0) C dX2_placeOf_0 (by decide) ?_
  refine gx_istore_n (lv' := [(2, .int 0), (0, .ref (g 0)), (1, .int a1)]) C dX2_placeOf_1 rfl (by decide) rfl ?_
  refine gx_sub [1, 2, 0] rfl ?_
  obtain ⟨n, h⟩ := h
  exact le_X2_placeOf_2 C hK hG hA n L a1 0 h
/-! Land.allVoles()I -/
abbrev rmX2_allVoles : Room := { frames := 0, cells := 0, slots := 0, locals := 0 }
theorem dmX2_allVoles : yX2_allVoles.cls ≠ "java/lang/invoke/MethodHandle" ∧ yX2_allVoles.cls ≠ "java/lang/invoke/VarHandle" ∧ (parseMethodDescriptor yX2_allVoles.desc).map (fun d => d.parameters.length) = some 0 := by decide +kernel
def lj_X2_allVoles_4 (L : LSt) (a1 : Int32) (a2 : Int32) (k4 : LSt → Int32 → Int32 → Prop) (Q : Int32 → LSt → Prop) : Prop :=
  ((64 ≤ a2 → Q a1 L) ∧ (¬ (64 ≤ a2) → (vp_in a2 64 ∧ k4 L (a1 + (ls_r L 1 a2)) (a2 + 1))))
theorem lb_X2_allVoles_4 {l : Launch} {p : Program} {e : Env} {s : State} {m : MethodId} {args : Array Value} {below : List Frame} {meth : Method} {c : Code} {D : va_G} {t0 : Nat} {g : Nat → Nat} {ca : Nat → ClassId} {A : Nat → Prop} (C : gx_C p s m args meth c cX2_allVoles 3 (some .int) RX2) (hK : gK D ca s) (hG : gZ t0 A s) (hA : ∀ q, s.heap.size ≤ q → A q) {L : LSt} {a1 : Int32} {a2 : Int32} {k4 : LSt → Int32 → Int32 → Prop} {Q : Int32 → LSt → Prop} (h : lj_X2_allVoles_4 L a1 a2 k4 Q) (hk4 : ∀ (L : LSt) (a1 : Int32) (a2 : Int32), k4 L a1 a2 → gx_W p l e (headSpec (ws_ yX2_allVoles cX2_allVoles 3 (some .int)) rmX2_allVoles).room s m args below meth c 3 (lm_I D t0 g ca A s L []) 0 0 (MQ below (va_Qi Q (lm_B D t0 g ca A) A) args s 0 0 A) 4 [(0, .ref (g 0)), (1, .int a1), (2, .int a2)] []) : gx_W p l e (headSpec (ws_ yX2_allVoles cX2_allVoles 3 (some .int)) rmX2_allVoles).room s m args below meth c 3 (lm_I D t0 g ca A s L []) 0 0 (MQ below (va_Qi Q (lm_B D t0 g ca A) A) args s 0 0 A) 4 [(0, .ref (g 0)), (1, .int a1), (2, .int a2)] [] := by
  unfold lj_X2_allVoles_4 at h
  refine gx_iload_n C dX2_allVoles_4 rfl 2 rfl ?_
  refine gx_bipush (v := 64) C dX2_allVoles_5 (by decide) ?_
  refine gx_icmp_ge (tgt := 25) C dX2_allVoles_7 (by decide) (fun z => ?_) (fun z => ?_)
  · replace h := h.1 z
    refine gx_iload_n C dX2_allVoles_25 rfl 1 rfl ?_
    exact lm_iret C h (Nat.le_refl _) (Nat.le_refl _) dX2_allVoles_26
  · replace h := h.2 z
    refine gx_iload_n C dX2_allVoles_10 rfl 1 rfl ?_
    refine gx_aload_n C dX2_allVoles_11 rfl 0 rfl ?_
    refine gw_get C hK in_X2 rfl ll_H0 1 (by decide) q234 rfl rfl dX2_allVoles_12 ?_
    refine gx_iload_n C dX2_allVoles_15 rfl 2 rfl ?_
    obtain ⟨g16, h⟩ := h
    refine gw_iald C hK ll_Ha1 g16 dX2_allVoles_16 ?_
    refine gx_iadd C dX2_allVoles_17 ?_
    refine gx_istore_n (lv' := [(1, .int (a1 + (ls_r L 1 a2))), (0, .ref (g 0)), (2, .int a2)]) C dX2_allVoles_18 rfl (by decide) rfl ?_
    refine gx_iinc (v := a2 + 1) (k := 2) (lv' := [(2, .int (a2 + 1)), (1, .int (a1 + (ls_r L 1 a2))), (0, .ref (g 0))]) C dX2_allVoles_19 rfl rfl (by decide) rfl ?_
    refine gx_goto (tgt := 4) C dX2_allVoles_22 (by decide) ?_
    refine gx_sub [2, 1, 0] rfl ?_
    exact hk4 L (a1 + (ls_r L 1 a2)) (a2 + 1) h
def ll_X2_allVoles_4 (Q : Int32 → LSt → Prop) : Nat → LSt → Int32 → Int32 → Prop
  | 0, _, _, _ => False
  | n + 1, L, a1, a2 => lj_X2_allVoles_4 L a1 a2 (fun L a1 a2 => ll_X2_allVoles_4 Q n L a1 a2) Q
theorem le_X2_allVoles_4 {l : Launch} {p : Program} {e : Env} {s : State} {m : MethodId} {args : Array Value} {below : List Frame} {meth : Method} {c : Code} {D : va_G} {t0 : Nat} {g : Nat → Nat} {ca : Nat → ClassId} {A : Nat → Prop} (C : gx_C p s m args meth c cX2_allVoles 3 (some .int) RX2) (hK : gK D ca s) (hG : gZ t0 A s) (hA : ∀ q, s.heap.size ≤ q → A q) {Q : Int32 → LSt → Prop}  (n : Nat) : ∀ (L : LSt) (a1 : Int32) (a2 : Int32), ll_X2_allVoles_4 Q n L a1 a2 → gx_W p l e (headSpec (ws_ yX2_allVoles cX2_allVoles 3 (some .int)) rmX2_allVoles).room s m args below meth c 3 (lm_I D t0 g ca A s L []) 0 0 (MQ below (va_Qi Q (lm_B D t0 g ca A) A) args s 0 0 A) 4 [(0, .ref (g 0)), (1, .int a1), (2, .int a2)] [] := by
  induction n with
  | zero => intro L a1 a2 h; exact False.elim h
  | succ n ih => intro L a1 a2 h; exact lb_X2_allVoles_4 C hK hG hA (show lj_X2_allVoles_4 L a1 a2 (fun L a1 a2 => ll_X2_allVoles_4 Q n L a1 a2) Q from h) (fun L a1 a2 h => ih L a1 a2 h)
def lw_X2_allVoles (L : LSt) (Q : Int32 → LSt → Prop) : Prop :=
  ∃ n : Nat, ll_X2_allVoles_4 Q n L 0 0
theorem lk_X2_allVoles {l : Launch} {D : va_G} {t0 : Nat} {g : Nat → Nat} {ca : Nat → ClassId} {Z : va_W} {sz : Nat} {L : LSt} {Q : Int32 → LSt → Prop} (h : lw_X2_allVoles L Q) : lm_Met l yX2_allVoles cX2_allVoles 3 (some .int) rmX2_allVoles [] D t0 g ca Z sz L (va_Qi Q (lm_B D t0 g ca (va_A (lm_ws g ca L Z) sz)) (va_A (lm_ws g ca L Z) sz)) 0 0 := by
  refine lm_entry (by decide) (Nat.le_of_ble_eq_true rfl) (fun p e s m args below meth c A eA hA hG C hK => ?_)
  rw [eA]
  unfold lw_X2_allVoles at h
  show gx_W p l e (headSpec (ws_ yX2_allVoles cX2_allVoles 3 (some .int)) rmX2_allVoles).room s m args below meth c 3 (lm_I D t0 g ca A s L []) 0 0 (MQ below (va_Qi Q (lm_B D t0 g ca A) A) args s 0 0 A) 0 [(0, .ref (g 0))] []
  refine gx_iconst (v := 0) C dX2_allVoles_0 (by decide) ?_
  refine gx_istore_n (lv' := [(1, .int 0), (0, .ref (g 0))]) C dX2_allVoles_1 rfl (by decide) rfl ?_
  refine gx_iconst (v := 0) C dX2_allVoles_2 (by decide) ?_
  refine gx_istore_n (lv' := [(2, .int 0), (1, .int 0), (0, .ref (g 0))]) C dX2_allVoles_3 rfl (by decide) rfl ?_
  refine gx_sub [2, 1, 0] rfl ?_
  obtain ⟨n, h⟩ := h
  exact le_X2_allVoles_4 C hK hG hA n L 0 0 h
/-! Land.squares(I)J -/
abbrev rmX2_squares : Room := { frames := 0, cells := 0, slots := 0, locals := 0 }
theorem dmX2_squares : yX2_squares.cls ≠ "java/lang/invoke/MethodHandle" ∧ yX2_squares.cls ≠ "java/lang/invoke/VarHandle" ∧ (parseMethodDescriptor yX2_squares.desc).map (fun d => d.parameters.length) = some 1 := by decide +kernel
def lj_X2_squares_5 (L : LSt) (a1 : Int32) (a2 : Int64) (a4 : Int32) (k5 : LSt → Int32 → Int64 → Int32 → Prop) (Q : Int64 → LSt → Prop) : Prop :=
  ((64 ≤ a4 → Q a2 L) ∧ (¬ (64 ≤ a4) → (vp_in a4 64 ∧ (∀ x33 : Int64, x33 = a2 ||| (if (ls_r L 0 a4) = a1 then ((1 : Int64) <<< (a4.toInt64 &&& 63)) else 0) → k5 L a1 x33 (a4 + 1)))))
theorem lb_X2_squares_5 {l : Launch} {p : Program} {e : Env} {s : State} {m : MethodId} {args : Array Value} {below : List Frame} {meth : Method} {c : Code} {D : va_G} {t0 : Nat} {g : Nat → Nat} {ca : Nat → ClassId} {A : Nat → Prop} (C : gx_C p s m args meth c cX2_squares 5 (some .long) RX2) (hK : gK D ca s) (hG : gZ t0 A s) (hA : ∀ q, s.heap.size ≤ q → A q) {L : LSt} {a1 : Int32} {a2 : Int64} {a4 : Int32} {k5 : LSt → Int32 → Int64 → Int32 → Prop} {Q : Int64 → LSt → Prop} (h : lj_X2_squares_5 L a1 a2 a4 k5 Q) (hk5 : ∀ (L : LSt) (a1 : Int32) (a2 : Int64) (a4 : Int32), k5 L a1 a2 a4 → gx_W p l e (headSpec (ws_ yX2_squares cX2_squares 5 (some .long)) rmX2_squares).room s m args below meth c 5 (lm_I D t0 g ca A s L []) 0 0 (MQ below (va_Ql Q (lm_B D t0 g ca A) A) args s 0 0 A) 5 [(0, .ref (g 0)), (1, .int a1), (2, .long a2), (4, .int a4)] []) : gx_W p l e (headSpec (ws_ yX2_squares cX2_squares 5 (some .long)) rmX2_squares).room s m args below meth c 5 (lm_I D t0 g ca A s L []) 0 0 (MQ below (va_Ql Q (lm_B D t0 g ca A) A) args s 0 0 A) 5 [(0, .ref (g 0)), (1, .int a1), (2, .long a2), (4, .int a4)] [] := by
  unfold lj_X2_squares_5 at h
  refine gx_iload C dX2_squares_5 3 rfl ?_
  refine gx_bipush (v := 64) C dX2_squares_7 (by decide) ?_
  refine gx_icmp_ge (tgt := 40) C dX2_squares_9 (by decide) (fun z => ?_) (fun z => ?_)
  · replace h := h.1 z
    refine gx_lload_n C dX2_squares_40 rfl 2 rfl ?_
    exact lm_lret C h (Nat.le_refl _) (Nat.le_refl _) dX2_squares_41
  · replace h := h.2 z
    refine gx_lload_n C dX2_squares_12 rfl 2 rfl ?_
    refine gx_aload_n C dX2_squares_13 rfl 0 rfl ?_
    refine gw_get C hK in_X2 rfl ll_H0 0 (by decide) q232 rfl rfl dX2_squares_14 ?_
    refine gx_iload C dX2_squares_17 3 rfl ?_
    obtain ⟨g19, h⟩ := h
    refine gw_iald C hK ll_Ha0 g19 dX2_squares_19 ?_
    refine gx_iload_n C dX2_squares_20 rfl 1 rfl ?_
    refine gx_phil (t := (if (ls_r L 0 a4) = a1 then ((1 : Int64) <<< (a4.toInt64 &&& 63)) else 0)) (pc2 := 32) (lv2 := [(0, .ref (g 0)), (1, .int a1), (2, .long a2), (4, .int a4)]) (rest2 := [.long a2]) (fun key => ?_) ?_
    · refine gx_icmp_ne (tgt := 31) C dX2_squares_21 (by decide) (fun z1 => ?_) (fun z1 => ?_)
      · refine gx_lconst (v := 0) C dX2_squares_31 (by decide) ?_
        exact gx_castl (if_neg z1) key
      · refine gx_lconst (v := 1) C dX2_squares_24 (by decide) ?_
        refine gx_iload C dX2_squares_25 3 rfl ?_
        refine gx_lshl C dX2_squares_27 rfl ?_
        refine gx_goto (tgt := 32) C dX2_squares_28 (by decide) ?_
        exact gx_castl (if_pos z1) key
    refine gx_lor C dX2_squares_32 ?_
    refine gx_topl (fun x33 e_x33 => ?_)
    replace h := h x33 e_x33
    refine gx_lstore_n (lv' := [(2, .long x33), (0, .ref (g 0)), (1, .int a1), (4, .int a4)]) C dX2_squares_33 rfl (by decide) rfl ?_
    refine gx_iinc (v := a4 + 1) (k := 3) (lv' := [(4, .int (a4 + 1)), (2, .long x33), (0, .ref (g 0)), (1, .int a1)]) C dX2_squares_34 rfl rfl (by decide) rfl ?_
    refine gx_goto (tgt := 5) C dX2_squares_37 (by decide) ?_
    refine gx_sub [2, 3, 1, 0] rfl ?_
    exact hk5 L a1 x33 (a4 + 1) h
def ll_X2_squares_5 (Q : Int64 → LSt → Prop) : Nat → LSt → Int32 → Int64 → Int32 → Prop
  | 0, _, _, _, _ => False
  | n + 1, L, a1, a2, a4 => lj_X2_squares_5 L a1 a2 a4 (fun L a1 a2 a4 => ll_X2_squares_5 Q n L a1 a2 a4) Q
theorem le_X2_squares_5 {l : Launch} {p : Program} {e : Env} {s : State} {m : MethodId} {args : Array Value} {below : List Frame} {meth : Method} {c : Code} {D : va_G} {t0 : Nat} {g : Nat → Nat} {ca : Nat → ClassId} {A : Nat → Prop} (C : gx_C p s m args meth c cX2_squares 5 (some .long) RX2) (hK : gK D ca s) (hG : gZ t0 A s) (hA : ∀ q, s.heap.size ≤ q → A q) {Q : Int64 → LSt → Prop}  (n : Nat) : ∀ (L : LSt) (a1 : Int32) (a2 : Int64) (a4 : Int32), ll_X2_squares_5 Q n L a1 a2 a4 → gx_W p l e (headSpec (ws_ yX2_squares cX2_squares 5 (some .long)) rmX2_squares).room s m args below meth c 5 (lm_I D t0 g ca A s L []) 0 0 (MQ below (va_Ql Q (lm_B D t0 g ca A) A) args s 0 0 A) 5 [(0, .ref (g 0)), (1, .int a1), (2, .long a2), (4, .int a4)] [] := by
  induction n with
  | zero => intro L a1 a2 a4 h; exact False.elim h
  | succ n ih => intro L a1 a2 a4 h; exact lb_X2_squares_5 C hK hG hA (show lj_X2_squares_5 L a1 a2 a4 (fun L a1 a2 a4 => ll_X2_squares_5 Q n L a1 a2 a4) Q from h) (fun L a1 a2 a4 h => ih L a1 a2 a4 h)
def lw_X2_squares (L : LSt) (a1 : Int32) (Q : Int64 → LSt → Prop) : Prop :=
  ∃ n : Nat, ll_X2_squares_5 Q n L a1 0 0
theorem lk_X2_squares {l : Launch} {D : va_G} {t0 : Nat} {g : Nat → Nat} {ca : Nat → ClassId} {Z : va_W} {sz : Nat} {L : LSt} {a1 : Int32} {Q : Int64 → LSt → Prop} (h : lw_X2_squares L a1 Q) : lm_Met l yX2_squares cX2_squares 5 (some .long) rmX2_squares [.int a1] D t0 g ca Z sz L (va_Ql Q (lm_B D t0 g ca (va_A (lm_ws g ca L Z) sz)) (va_A (lm_ws g ca L Z) sz)) 0 0 := by
  refine lm_entry (by decide) (Nat.le_of_ble_eq_true rfl) (fun p e s m args below meth c A eA hA hG C hK => ?_)
  rw [eA]
  unfold lw_X2_squares at h
  show gx_W p l e (headSpec (ws_ yX2_squares cX2_squares 5 (some .long)) rmX2_squares).room s m args below meth c 5 (lm_I D t0 g ca A s L []) 0 0 (MQ below (va_Ql Q (lm_B D t0 g ca A) A) args s 0 0 A) 0 [(0, .ref (g 0)), (1, .int a1)] []
  refine gx_lconst (v := 0) C dX2_squares_0 (by decide) ?_
  refine gx_lstore_n (lv' := [(2, .long 0), (0, .ref (g 0)), (1, .int a1)]) C dX2_squares_1 rfl (by decide) rfl ?_
  refine gx_iconst (v := 0) C dX2_squares_2 (by decide) ?_
  refine gx_istore (lv' := [(4, .int 0), (2, .long 0), (0, .ref (g 0)), (1, .int a1)]) C dX2_squares_3 (by decide) rfl ?_
  refine gx_sub [2, 3, 1, 0] rfl ?_
  obtain ⟨n, h⟩ := h
  exact le_X2_squares_5 C hK hG hA n L a1 0 0 h
/-! Land.wanderers()I -/
abbrev rmX2_wanderers : Room := { frames := 3, cells := 0, slots := 0, locals := 64 }
theorem dmX2_wanderers : yX2_wanderers.cls ≠ "java/lang/invoke/MethodHandle" ∧ yX2_wanderers.cls ≠ "java/lang/invoke/VarHandle" ∧ (parseMethodDescriptor yX2_wanderers.desc).map (fun d => d.parameters.length) = some 0 := by decide +kernel
def lj_X2_wanderers_58 (L : LSt) (a2 : Int32) (a3 : Int32) (s0 : Int32) (s1 : Int32) (k12 : LSt → Int32 → Int32 → Int32 → Prop) (Q : Int32 → LSt → Prop) : Prop :=
  k12 L (s0 + s1) a2 (a3 + 1)
theorem lb_X2_wanderers_58 {l : Launch} {p : Program} {e : Env} {s : State} {m : MethodId} {args : Array Value} {below : List Frame} {meth : Method} {c : Code} {D : va_G} {t0 : Nat} {g : Nat → Nat} {ca : Nat → ClassId} {A : Nat → Prop} (C : gx_C p s m args meth c cX2_wanderers 4 (some .int) RX2) (hK : gK D ca s) (hG : gZ t0 A s) (hA : ∀ q, s.heap.size ≤ q → A q) {L : LSt} {a2 : Int32} {a3 : Int32} {s0 : Int32} {s1 : Int32} {k12 : LSt → Int32 → Int32 → Int32 → Prop} {Q : Int32 → LSt → Prop} (h : lj_X2_wanderers_58 L a2 a3 s0 s1 k12 Q) (hk12 : ∀ (L : LSt) (a1 : Int32) (a2 : Int32) (a3 : Int32), k12 L a1 a2 a3 → gx_W p l e (headSpec (ws_ yX2_wanderers cX2_wanderers 4 (some .int)) rmX2_wanderers).room s m args below meth c 4 (lm_I D t0 g ca A s L []) 0 0 (MQ below (va_Qi Q (lm_B D t0 g ca A) A) args s 0 0 A) 12 [(0, .ref (g 0)), (1, .int a1), (2, .int a2), (3, .int a3)] []) : gx_W p l e (headSpec (ws_ yX2_wanderers cX2_wanderers 4 (some .int)) rmX2_wanderers).room s m args below meth c 4 (lm_I D t0 g ca A s L []) 0 0 (MQ below (va_Qi Q (lm_B D t0 g ca A) A) args s 0 0 A) 58 [(0, .ref (g 0)), (2, .int a2), (3, .int a3)] [.int s1, .int s0] := by
  unfold lj_X2_wanderers_58 at h
  refine gx_iadd C dX2_wanderers_58 ?_
  refine gx_istore_n (lv' := [(1, .int (s0 + s1)), (0, .ref (g 0)), (2, .int a2), (3, .int a3)]) C dX2_wanderers_59 rfl (by decide) rfl ?_
  refine gx_iinc (v := a3 + 1) (k := 3) (lv' := [(3, .int (a3 + 1)), (1, .int (s0 + s1)), (0, .ref (g 0)), (2, .int a2)]) C dX2_wanderers_60 rfl rfl (by decide) rfl ?_
  refine gx_goto (tgt := 12) C dX2_wanderers_63 (by decide) ?_
  refine gx_sub [2, 1, 3, 0] rfl ?_
  exact hk12 L (s0 + s1) a2 (a3 + 1) h
def lj_X2_wanderers_57 (L : LSt) (a2 : Int32) (a3 : Int32) (s0 : Int32) (k12 : LSt → Int32 → Int32 → Int32 → Prop) (Q : Int32 → LSt → Prop) : Prop :=
  lj_X2_wanderers_58 L a2 a3 s0 0 k12 Q
theorem lb_X2_wanderers_57 {l : Launch} {p : Program} {e : Env} {s : State} {m : MethodId} {args : Array Value} {below : List Frame} {meth : Method} {c : Code} {D : va_G} {t0 : Nat} {g : Nat → Nat} {ca : Nat → ClassId} {A : Nat → Prop} (C : gx_C p s m args meth c cX2_wanderers 4 (some .int) RX2) (hK : gK D ca s) (hG : gZ t0 A s) (hA : ∀ q, s.heap.size ≤ q → A q) {L : LSt} {a2 : Int32} {a3 : Int32} {s0 : Int32} {k12 : LSt → Int32 → Int32 → Int32 → Prop} {Q : Int32 → LSt → Prop} (h : lj_X2_wanderers_57 L a2 a3 s0 k12 Q) (hk12 : ∀ (L : LSt) (a1 : Int32) (a2 : Int32) (a3 : Int32), k12 L a1 a2 a3 → gx_W p l e (headSpec (ws_ yX2_wanderers cX2_wanderers 4 (some .int)) rmX2_wanderers).room s m args below meth c 4 (lm_I D t0 g ca A s L []) 0 0 (MQ below (va_Qi Q (lm_B D t0 g ca A) A) args s 0 0 A) 12 [(0, .ref (g 0)), (1, .int a1), (2, .int a2), (3, .int a3)] []) : gx_W p l e (headSpec (ws_ yX2_wanderers cX2_wanderers 4 (some .int)) rmX2_wanderers).room s m args below meth c 4 (lm_I D t0 g ca A s L []) 0 0 (MQ below (va_Qi Q (lm_B D t0 g ca A) A) args s 0 0 A) 57 [(0, .ref (g 0)), (2, .int a2), (3, .int a3)] [.int s0] := by
  unfold lj_X2_wanderers_57 at h
  refine gx_iconst (v := 0) C dX2_wanderers_57 (by decide) ?_
  exact lb_X2_wanderers_58 C hK hG hA h hk12
def lj_X2_wanderers_12 (L : LSt) (a1 : Int32) (a2 : Int32) (a3 : Int32) (k12 : LSt → Int32 → Int32 → Int32 → Prop) (Q : Int32 → LSt → Prop) : Prop :=
  ((a2 ≤ a3 → Q a1 L) ∧ (¬ (a2 ≤ a3) → (vp_in a3 (ls_ow L).length ∧ ∀ o23 : Nat, o23 = (ls_ow L).getD a3.toNatClampNeg 0 → (((ls_of L 6 o23) = 0 → lj_X2_wanderers_57 L a2 a3 a1 k12 Q) ∧ (¬ (ls_of L 6 o23) = 0 → (vp_in a3 (ls_ow L).length ∧ ∀ o40 : Nat, o40 = (ls_ow L).getD a3.toNatClampNeg 0 → (((ls_of L 5 o40) = (-1) → lj_X2_wanderers_58 L a2 a3 a1 1 k12 Q) ∧ (¬ (ls_of L 5 o40) = (-1) → lj_X2_wanderers_57 L a2 a3 a1 k12 Q))))))))
theorem lb_X2_wanderers_12 {l : Launch} {p : Program} {e : Env} {s : State} {m : MethodId} {args : Array Value} {below : List Frame} {meth : Method} {c : Code} {D : va_G} {t0 : Nat} {g : Nat → Nat} {ca : Nat → ClassId} {A : Nat → Prop} (C : gx_C p s m args meth c cX2_wanderers 4 (some .int) RX2) (hK : gK D ca s) (hG : gZ t0 A s) (hA : ∀ q, s.heap.size ≤ q → A q) {L : LSt} {a1 : Int32} {a2 : Int32} {a3 : Int32} {k12 : LSt → Int32 → Int32 → Int32 → Prop} {Q : Int32 → LSt → Prop} (h : lj_X2_wanderers_12 L a1 a2 a3 k12 Q) (hk12 : ∀ (L : LSt) (a1 : Int32) (a2 : Int32) (a3 : Int32), k12 L a1 a2 a3 → gx_W p l e (headSpec (ws_ yX2_wanderers cX2_wanderers 4 (some .int)) rmX2_wanderers).room s m args below meth c 4 (lm_I D t0 g ca A s L []) 0 0 (MQ below (va_Qi Q (lm_B D t0 g ca A) A) args s 0 0 A) 12 [(0, .ref (g 0)), (1, .int a1), (2, .int a2), (3, .int a3)] []) : gx_W p l e (headSpec (ws_ yX2_wanderers cX2_wanderers 4 (some .int)) rmX2_wanderers).room s m args below meth c 4 (lm_I D t0 g ca A s L []) 0 0 (MQ below (va_Qi Q (lm_B D t0 g ca A) A) args s 0 0 A) 12 [(0, .ref (g 0)), (1, .int a1), (2, .int a2), (3, .int a3)] [] := by
  unfold lj_X2_wanderers_12 at h
  refine gx_iload_n C dX2_wanderers_12 rfl 3 rfl ?_
  refine gx_iload_n C dX2_wanderers_13 rfl 2 rfl ?_
  refine gx_icmp_ge (tgt := 66) C dX2_wanderers_14 (by decide) (fun z => ?_) (fun z => ?_)
  · replace h := h.1 z
    refine gx_iload_n C dX2_wanderers_66 rfl 1 rfl ?_
    exact lm_iret C h (Nat.le_refl _) (Nat.le_refl _) dX2_wanderers_67
  · replace h := h.2 z
    refine gx_iload_n C dX2_wanderers_17 rfl 1 rfl ?_
    refine gx_aload_n C dX2_wanderers_18 rfl 0 rfl ?_
    refine gw_get C hK in_X2 rfl ll_H0 5 (by decide) q240 rfl rfl dX2_wanderers_19 ?_
    refine gx_iload_n C dX2_wanderers_22 rfl 3 rfl ?_
    obtain ⟨g23, h⟩ := h
    refine al_rget C hK ll_ol g23 (cwV 1 C.t (lw_V q364 q365 q366 q123 q367) rfl rfl rfl ⟨rfl, dmJ2_get⟩ ⟨Nat.le_of_ble_eq_true rfl, Nat.le_of_ble_eq_true rfl⟩) (Nat.le_of_ble_eq_true rfl) ⟨Nat.zero_le _, Nat.zero_le _⟩ dX2_wanderers_23 (fun o23 e_o23 => ?_)
    replace h := h o23 e_o23
    have m_o23 : o23 ∈ ls_ow L := e_o23 ▸ al_mem g23
    refine gw_cast C hK (ci := 5) rfl (ll_Ho m_o23) q1213 dX2_wanderers_26 ?_
    refine gw_getN C hK in_X6 rfl (ll_Ho m_o23) 6 (by decide) q1242 rfl rfl dX2_wanderers_29 ?_
    refine gx_if_eq (tgt := 57) C dX2_wanderers_32 (by decide) (fun z => ?_) (fun z => ?_)
    · replace h := h.1 z
      refine gx_sub [0, 2, 3] rfl ?_
      exact lb_X2_wanderers_57 C hK hG hA h hk12
    · replace h := h.2 z
      refine gx_aload_n C dX2_wanderers_35 rfl 0 rfl ?_
      refine gw_get C hK in_X2 rfl ll_H0 5 (by decide) q240 rfl rfl dX2_wanderers_36 ?_
      refine gx_iload_n C dX2_wanderers_39 rfl 3 rfl ?_
      obtain ⟨g40, h⟩ := h
      refine al_rget C hK ll_ol g40 (cwV 1 C.t (lw_V q364 q365 q366 q123 q367) rfl rfl rfl ⟨rfl, dmJ2_get⟩ ⟨Nat.le_of_ble_eq_true rfl, Nat.le_of_ble_eq_true rfl⟩) (Nat.le_of_ble_eq_true rfl) ⟨Nat.zero_le _, Nat.zero_le _⟩ dX2_wanderers_40 (fun o40 e_o40 => ?_)
      replace h := h o40 e_o40
      have m_o40 : o40 ∈ ls_ow L := e_o40 ▸ al_mem g40
      refine gw_cast C hK (ci := 5) rfl (ll_Ho m_o40) q1213 dX2_wanderers_43 ?_
      refine gw_getN C hK in_X6 rfl (ll_Ho m_o40) 5 (by decide) q1238 rfl rfl dX2_wanderers_46 ?_
      refine gx_iconst (v := (-1)) C dX2_wanderers_49 (by decide) ?_
      refine gx_icmp_ne (tgt := 57) C dX2_wanderers_50 (by decide) (fun z => ?_) (fun z => ?_)
      · replace h := h.2 z
        refine gx_sub [0, 2, 3] rfl ?_
        exact lb_X2_wanderers_57 C hK hG hA h hk12
      · replace h := h.1 z
        refine gx_iconst (v := 1) C dX2_wanderers_53 (by decide) ?_
        refine gx_goto (tgt := 58) C dX2_wanderers_54 (by decide) ?_
        refine gx_sub [0, 2, 3] rfl ?_
        exact lb_X2_wanderers_58 C hK hG hA h hk12
def ll_X2_wanderers_12 (Q : Int32 → LSt → Prop) : Nat → LSt → Int32 → Int32 → Int32 → Prop
  | 0, _, _, _, _ => False
  | n + 1, L, a1, a2, a3 => lj_X2_wanderers_12 L a1 a2 a3 (fun L a1 a2 a3 => ll_X2_wanderers_12 Q n L a1 a2 a3) Q
theorem le_X2_wanderers_12 {l : Launch} {p : Program} {e : Env} {s : State} {m : MethodId} {args : Array Value} {below : List Frame} {meth : Method} {c : Code} {D : va_G} {t0 : Nat} {g : Nat → Nat} {ca : Nat → ClassId} {A : Nat → Prop} (C : gx_C p s m args meth c cX2_wanderers 4 (some .int) RX2) (hK : gK D ca s) (hG : gZ t0 A s) (hA : ∀ q, s.heap.size ≤ q → A q) {Q : Int32 → LSt → Prop}  (n : Nat) : ∀ (L : LSt) (a1 : Int32) (a2 : Int32) (a3 : Int32), ll_X2_wanderers_12 Q n L a1 a2 a3 → gx_W p l e (headSpec (ws_ yX2_wanderers cX2_wanderers 4 (some .int)) rmX2_wanderers).room s m args below meth c 4 (lm_I D t0 g ca A s L []) 0 0 (MQ below (va_Qi Q (lm_B D t0 g ca A) A) args s 0 0 A) 12 [(0, .ref (g 0)), (1, .int a1), (2, .int a2), (3, .int a3)] [] := by
  induction n with
  | zero => intro L a1 a2 a3 h; exact False.elim h
  | succ n ih => intro L a1 a2 a3 h; exact lb_X2_wanderers_12 C hK hG hA (show lj_X2_wanderers_12 L a1 a2 a3 (fun L a1 a2 a3 => ll_X2_wanderers_12 Q n L a1 a2 a3) Q from h) (fun L a1 a2 a3 h => ih L a1 a2 a3 h)
def lw_X2_wanderers (L : LSt) (Q : Int32 → LSt → Prop) : Prop :=
  ∃ n : Nat, ll_X2_wanderers_12 Q n L 0 (nI (ls_ow L).length) 0
theorem lk_X2_wanderers {l : Launch} {D : va_G} {t0 : Nat} {g : Nat → Nat} {ca : Nat → ClassId} {Z : va_W} {sz : Nat} {L : LSt} {Q : Int32 → LSt → Prop} (h : lw_X2_wanderers L Q) : lm_Met l yX2_wanderers cX2_wanderers 4 (some .int) rmX2_wanderers [] D t0 g ca Z sz L (va_Qi Q (lm_B D t0 g ca (va_A (lm_ws g ca L Z) sz)) (va_A (lm_ws g ca L Z) sz)) 0 0 := by
  refine lm_entry (by decide) (Nat.le_of_ble_eq_true rfl) (fun p e s m args below meth c A eA hA hG C hK => ?_)
  rw [eA]
  unfold lw_X2_wanderers at h
  show gx_W p l e (headSpec (ws_ yX2_wanderers cX2_wanderers 4 (some .int)) rmX2_wanderers).room s m args below meth c 4 (lm_I D t0 g ca A s L []) 0 0 (MQ below (va_Qi Q (lm_B D t0 g ca A) A) args s 0 0 A) 0 [(0, .ref (g 0))] []
  refine gx_iconst (v := 0) C dX2_wanderers_0 (by decide) ?_
  refine gx_istore_n (lv' := [(1, .int 0), (0, .ref (g 0))]) C dX2_wanderers_1 rfl (by decide) rfl ?_
  refine gx_aload_n C dX2_wanderers_2 rfl 1 rfl ?_
  refine gw_get C hK in_X2 rfl ll_H0 5 (by decide) q240 rfl rfl dX2_wanderers_3 ?_
  refine al_rsize (n := 0) C hK ll_ol (cwV 0 C.t (lw_V q360 q361 q362 q123 q363) rfl rfl rfl ⟨rfl, dmJ2_size⟩ ⟨Nat.le_of_ble_eq_true rfl, Nat.le_of_ble_eq_true rfl⟩) (Nat.le_of_ble_eq_true rfl) ⟨Nat.zero_le _, Nat.zero_le _⟩ dX2_wanderers_6 ?_
  refine gx_istore_n (lv' := [(2, .int (nI (ls_ow L).length)), (1, .int 0), (0, .ref (g 0))]) C dX2_wanderers_9 rfl (by decide) rfl ?_
  refine gx_iconst (v := 0) C dX2_wanderers_10 (by decide) ?_
  refine gx_istore_n (lv' := [(3, .int 0), (2, .int (nI (ls_ow L).length)), (1, .int 0), (0, .ref (g 0))]) C dX2_wanderers_11 rfl (by decide) rfl ?_
  refine gx_sub [3, 2, 1, 0] rfl ?_
  obtain ⟨n, h⟩ := h
  exact le_X2_wanderers_12 C hK hG hA n L 0 (nI (ls_ow L).length) 0 h
/-! Land.oldest()LOwlYears$Owl; -/
abbrev rmX2_oldest : Room := { frames := 3, cells := 0, slots := 0, locals := 64 }
theorem dmX2_oldest : yX2_oldest.cls ≠ "java/lang/invoke/MethodHandle" ∧ yX2_oldest.cls ≠ "java/lang/invoke/VarHandle" ∧ (parseMethodDescriptor yX2_oldest.desc).map (fun d => d.parameters.length) = some 0 := by decide +kernel
def lj_X2_oldest_60 (L : LSt) (a2 : Int32) (a3 : Int32) (s0 : Option Nat) (k12 : LSt → Option Nat → Int32 → Int32 → Prop) (Q : Option Nat → LSt → Prop) : Prop :=
  k12 L s0 a2 (a3 + 1)
theorem lb_X2_oldest_60 {l : Launch} {p : Program} {e : Env} {s : State} {m : MethodId} {args : Array Value} {below : List Frame} {meth : Method} {c : Code} {D : va_G} {t0 : Nat} {g : Nat → Nat} {ca : Nat → ClassId} {A : Nat → Prop} (C : gx_C p s m args meth c cX2_oldest 5 (some (.object "OwlYears$Owl")) RX2) (hK : gK D ca s) (hG : gZ t0 A s) (hA : ∀ q, s.heap.size ≤ q → A q) {L : LSt} {a2 : Int32} {a3 : Int32} {s0 : Option Nat} {k12 : LSt → Option Nat → Int32 → Int32 → Prop} {Q : Option Nat → LSt → Prop} (h : lj_X2_oldest_60 L a2 a3 s0 k12 Q) (hk12 : ∀ (L : LSt) (a1 : Option Nat) (a2 : Int32) (a3 : Int32), k12 L a1 a2 a3 → gx_W p l e (headSpec (ws_ yX2_oldest cX2_oldest 5 (some (.object "OwlYears$Owl"))) rmX2_oldest).room s m args below meth c 5 (lm_I D t0 g ca A s L []) 0 0 (MQ below (va_Qq Q (lm_B D t0 g ca A) A) args s 0 0 A) 12 [(0, .ref (g 0)), (1, va_rf a1), (2, .int a2), (3, .int a3)] []) : gx_W p l e (headSpec (ws_ yX2_oldest cX2_oldest 5 (some (.object "OwlYears$Owl"))) rmX2_oldest).room s m args below meth c 5 (lm_I D t0 g ca A s L []) 0 0 (MQ below (va_Qq Q (lm_B D t0 g ca A) A) args s 0 0 A) 60 [(0, .ref (g 0)), (2, .int a2), (3, .int a3)] [va_rf s0] := by
  unfold lj_X2_oldest_60 at h
  refine gx_astore_nq (lv' := [(1, va_rf s0), (0, .ref (g 0)), (2, .int a2), (3, .int a3)]) C dX2_oldest_60 rfl (by decide) rfl ?_
  refine gx_iinc (v := a3 + 1) (k := 3) (lv' := [(3, .int (a3 + 1)), (1, va_rf s0), (0, .ref (g 0)), (2, .int a2)]) C dX2_oldest_61 rfl rfl (by decide) rfl ?_
  refine gx_goto (tgt := 12) C dX2_oldest_64 (by decide) ?_
  refine gx_sub [2, 1, 3, 0] rfl ?_
  exact hk12 L s0 a2 (a3 + 1) h
def lj_X2_oldest_59 (L : LSt) (a1 : Option Nat) (a2 : Int32) (a3 : Int32) (k12 : LSt → Option Nat → Int32 → Int32 → Prop) (Q : Option Nat → LSt → Prop) : Prop :=
  lj_X2_oldest_60 L a2 a3 a1 k12 Q
theorem lb_X2_oldest_59 {l : Launch} {p : Program} {e : Env} {s : State} {m : MethodId} {args : Array Value} {below : List Frame} {meth : Method} {c : Code} {D : va_G} {t0 : Nat} {g : Nat → Nat} {ca : Nat → ClassId} {A : Nat → Prop} (C : gx_C p s m args meth c cX2_oldest 5 (some (.object "OwlYears$Owl")) RX2) (hK : gK D ca s) (hG : gZ t0 A s) (hA : ∀ q, s.heap.size ≤ q → A q) {L : LSt} {a1 : Option Nat} {a2 : Int32} {a3 : Int32} {k12 : LSt → Option Nat → Int32 → Int32 → Prop} {Q : Option Nat → LSt → Prop} (h : lj_X2_oldest_59 L a1 a2 a3 k12 Q) (hk12 : ∀ (L : LSt) (a1 : Option Nat) (a2 : Int32) (a3 : Int32), k12 L a1 a2 a3 → gx_W p l e (headSpec (ws_ yX2_oldest cX2_oldest 5 (some (.object "OwlYears$Owl"))) rmX2_oldest).room s m args below meth c 5 (lm_I D t0 g ca A s L []) 0 0 (MQ below (va_Qq Q (lm_B D t0 g ca A) A) args s 0 0 A) 12 [(0, .ref (g 0)), (1, va_rf a1), (2, .int a2), (3, .int a3)] []) : gx_W p l e (headSpec (ws_ yX2_oldest cX2_oldest 5 (some (.object "OwlYears$Owl"))) rmX2_oldest).room s m args below meth c 5 (lm_I D t0 g ca A s L []) 0 0 (MQ below (va_Qq Q (lm_B D t0 g ca A) A) args s 0 0 A) 59 [(0, .ref (g 0)), (1, va_rf a1), (2, .int a2), (3, .int a3)] [] := by
  unfold lj_X2_oldest_59 at h
  refine gx_aload_nq C dX2_oldest_59 rfl 1 rfl ?_
  refine gx_sub [0, 2, 3] rfl ?_
  exact lb_X2_oldest_60 (s0 := a1) C hK hG hA h hk12
def lj_X2_oldest_54 (L : LSt) (a2 : Int32) (a3 : Int32) (a4 : Nat) (k12 : LSt → Option Nat → Int32 → Int32 → Prop) (Q : Option Nat → LSt → Prop) : Prop :=
  lj_X2_oldest_60 L a2 a3 ((some a4)) k12 Q
theorem lb_X2_oldest_54 {l : Launch} {p : Program} {e : Env} {s : State} {m : MethodId} {args : Array Value} {below : List Frame} {meth : Method} {c : Code} {D : va_G} {t0 : Nat} {g : Nat → Nat} {ca : Nat → ClassId} {A : Nat → Prop} (C : gx_C p s m args meth c cX2_oldest 5 (some (.object "OwlYears$Owl")) RX2) (hK : gK D ca s) (hG : gZ t0 A s) (hA : ∀ q, s.heap.size ≤ q → A q) {L : LSt} {a2 : Int32} {a3 : Int32} {a4 : Nat} {k12 : LSt → Option Nat → Int32 → Int32 → Prop} {Q : Option Nat → LSt → Prop} (h : lj_X2_oldest_54 L a2 a3 a4 k12 Q) (hk12 : ∀ (L : LSt) (a1 : Option Nat) (a2 : Int32) (a3 : Int32), k12 L a1 a2 a3 → gx_W p l e (headSpec (ws_ yX2_oldest cX2_oldest 5 (some (.object "OwlYears$Owl"))) rmX2_oldest).room s m args below meth c 5 (lm_I D t0 g ca A s L []) 0 0 (MQ below (va_Qq Q (lm_B D t0 g ca A) A) args s 0 0 A) 12 [(0, .ref (g 0)), (1, va_rf a1), (2, .int a2), (3, .int a3)] []) : gx_W p l e (headSpec (ws_ yX2_oldest cX2_oldest 5 (some (.object "OwlYears$Owl"))) rmX2_oldest).room s m args below meth c 5 (lm_I D t0 g ca A s L []) 0 0 (MQ below (va_Qq Q (lm_B D t0 g ca A) A) args s 0 0 A) 54 [(0, .ref (g 0)), (2, .int a2), (3, .int a3), (4, .ref a4)] [] := by
  unfold lj_X2_oldest_54 at h
  refine gx_aload C dX2_oldest_54 3 rfl ?_
  refine gx_goto (tgt := 60) C dX2_oldest_56 (by decide) ?_
  refine gx_sub [0, 1, 2] rfl ?_
  exact lb_X2_oldest_60 (s0 := ((some a4))) C hK hG hA h hk12
def lj_X2_oldest_12 (L : LSt) (a1 : Option Nat) (a2 : Int32) (a3 : Int32) (k12 : LSt → Option Nat → Int32 → Int32 → Prop) (Q : Option Nat → LSt → Prop) : Prop :=
  ((a2 ≤ a3 → Q a1 L) ∧ (¬ (a2 ≤ a3) → (vp_in a3 (ls_ow L).length ∧ ∀ o22 : Nat, o22 = (ls_ow L).getD a3.toNatClampNeg 0 → (((ls_of L 6 o22) = 0 → lj_X2_oldest_59 L a1 a2 a3 k12 Q) ∧ (¬ (ls_of L 6 o22) = 0 → ((a1 = none → lj_X2_oldest_54 L a2 a3 o22 k12 Q) ∧ (∀ o39, a1 = some o39 → (o39 ∈ ls_ow L ∧ (((ls_of L 4 o22) ≤ (ls_of L 4 o39) → lj_X2_oldest_59 L ((some o39)) a2 a3 k12 Q) ∧ (¬ (ls_of L 4 o22) ≤ (ls_of L 4 o39) → lj_X2_oldest_54 L a2 a3 o22 k12 Q))))))))))
theorem lb_X2_oldest_12 {l : Launch} {p : Program} {e : Env} {s : State} {m : MethodId} {args : Array Value} {below : List Frame} {meth : Method} {c : Code} {D : va_G} {t0 : Nat} {g : Nat → Nat} {ca : Nat → ClassId} {A : Nat → Prop} (C : gx_C p s m args meth c cX2_oldest 5 (some (.object "OwlYears$Owl")) RX2) (hK : gK D ca s) (hG : gZ t0 A s) (hA : ∀ q, s.heap.size ≤ q → A q) {L : LSt} {a1 : Option Nat} {a2 : Int32} {a3 : Int32} {k12 : LSt → Option Nat → Int32 → Int32 → Prop} {Q : Option Nat → LSt → Prop} (h : lj_X2_oldest_12 L a1 a2 a3 k12 Q) (hk12 : ∀ (L : LSt) (a1 : Option Nat) (a2 : Int32) (a3 : Int32), k12 L a1 a2 a3 → gx_W p l e (headSpec (ws_ yX2_oldest cX2_oldest 5 (some (.object "OwlYears$Owl"))) rmX2_oldest).room s m args below meth c 5 (lm_I D t0 g ca A s L []) 0 0 (MQ below (va_Qq Q (lm_B D t0 g ca A) A) args s 0 0 A) 12 [(0, .ref (g 0)), (1, va_rf a1), (2, .int a2), (3, .int a3)] []) : gx_W p l e (headSpec (ws_ yX2_oldest cX2_oldest 5 (some (.object "OwlYears$Owl"))) rmX2_oldest).room s m args below meth c 5 (lm_I D t0 g ca A s L []) 0 0 (MQ below (va_Qq Q (lm_B D t0 g ca A) A) args s 0 0 A) 12 [(0, .ref (g 0)), (1, va_rf a1), (2, .int a2), (3, .int a3)] [] := by
  unfold lj_X2_oldest_12 at h
  refine gx_iload_n C dX2_oldest_12 rfl 3 rfl ?_
  refine gx_iload_n C dX2_oldest_13 rfl 2 rfl ?_
  refine gx_icmp_ge (tgt := 67) C dX2_oldest_14 (by decide) (fun z => ?_) (fun z => ?_)
  · replace h := h.1 z
    refine gx_aload_nq C dX2_oldest_67 rfl 1 rfl ?_
    exact lm_qret (r := a1) (Or.inl ⟨_, rfl⟩) C h (Nat.le_refl _) (Nat.le_refl _) dX2_oldest_68
  · replace h := h.2 z
    refine gx_aload_n C dX2_oldest_17 rfl 0 rfl ?_
    refine gw_get C hK in_X2 rfl ll_H0 5 (by decide) q240 rfl rfl dX2_oldest_18 ?_
    refine gx_iload_n C dX2_oldest_21 rfl 3 rfl ?_
    obtain ⟨g22, h⟩ := h
    refine al_rget C hK ll_ol g22 (cwV 1 C.t (lw_V q364 q365 q366 q123 q367) rfl rfl rfl ⟨rfl, dmJ2_get⟩ ⟨Nat.le_of_ble_eq_true rfl, Nat.le_of_ble_eq_true rfl⟩) (Nat.le_of_ble_eq_true rfl) ⟨Nat.zero_le _, Nat.zero_le _⟩ dX2_oldest_22 (fun o22 e_o22 => ?_)
    replace h := h o22 e_o22
    have m_o22 : o22 ∈ ls_ow L := e_o22 ▸ al_mem g22
    refine gw_cast C hK (ci := 5) rfl (ll_Ho m_o22) q1213 dX2_oldest_25 ?_
    refine gx_astore (lv' := [(4, .ref o22), (0, .ref (g 0)), (1, va_rf a1), (2, .int a2), (3, .int a3)]) C dX2_oldest_28 (by decide) rfl ?_
    refine gx_aload C dX2_oldest_30 0 rfl ?_
    refine gw_getN C hK in_X6 rfl (ll_Ho m_o22) 6 (by decide) q1242 rfl rfl dX2_oldest_32 ?_
    refine gx_if_eq (tgt := 59) C dX2_oldest_35 (by decide) (fun z => ?_) (fun z => ?_)
    · replace h := h.1 z
      refine gx_sub [1, 2, 3, 4] rfl ?_
      exact lb_X2_oldest_59 (a1 := a1) C hK hG hA h hk12
    · replace h := h.2 z
      refine gx_aload_nq C dX2_oldest_38 rfl 2 rfl ?_
      refine gx_ifnull_q (tgt := 54) C dX2_oldest_39 (by decide) (fun z => ?_) (fun o39 z => ?_)
      · replace h := h.1 z
        refine gx_sub [1, 3, 4, 0] rfl ?_
        exact lb_X2_oldest_54 C hK hG hA h hk12
      · replace h := h.2 o39 z
        have hh := h; subst z; have h := hh; clear hh
        refine gx_aload C dX2_oldest_42 0 rfl ?_
        refine gw_getN C hK in_X6 rfl (ll_Ho m_o22) 4 (by decide) q1235 rfl rfl dX2_oldest_44 ?_
        refine gx_aload_n C dX2_oldest_47 rfl 2 rfl ?_
        obtain ⟨m48, h⟩ := h
        refine gw_getN C hK in_X6 rfl (ll_Ho m48) 4 (by decide) q1235 rfl rfl dX2_oldest_48 ?_
        refine gx_icmp_le (tgt := 59) C dX2_oldest_51 (by decide) (fun z => ?_) (fun z => ?_)
        · replace h := h.1 z
          refine gx_sub [1, 2, 3, 4] rfl ?_
          exact lb_X2_oldest_59 (a1 := ((some o39))) C hK hG hA h hk12
        · replace h := h.2 z
          refine gx_sub [1, 3, 4, 0] rfl ?_
          exact lb_X2_oldest_54 C hK hG hA h hk12
def ll_X2_oldest_12 (Q : Option Nat → LSt → Prop) : Nat → LSt → Option Nat → Int32 → Int32 → Prop
  | 0, _, _, _, _ => False
  | n + 1, L, a1, a2, a3 => lj_X2_oldest_12 L a1 a2 a3 (fun L a1 a2 a3 => ll_X2_oldest_12 Q n L a1 a2 a3) Q
theorem le_X2_oldest_12 {l : Launch} {p : Program} {e : Env} {s : State} {m : MethodId} {args : Array Value} {below : List Frame} {meth : Method} {c : Code} {D : va_G} {t0 : Nat} {g : Nat → Nat} {ca : Nat → ClassId} {A : Nat → Prop} (C : gx_C p s m args meth c cX2_oldest 5 (some (.object "OwlYears$Owl")) RX2) (hK : gK D ca s) (hG : gZ t0 A s) (hA : ∀ q, s.heap.size ≤ q → A q) {Q : Option Nat → LSt → Prop}  (n : Nat) : ∀ (L : LSt) (a1 : Option Nat) (a2 : Int32) (a3 : Int32), ll_X2_oldest_12 Q n L a1 a2 a3 → gx_W p l e (headSpec (ws_ yX2_oldest cX2_oldest 5 (some (.object "OwlYears$Owl"))) rmX2_oldest).room s m args below meth c 5 (lm_I D t0 g ca A s L []) 0 0 (MQ below (va_Qq Q (lm_B D t0 g ca A) A) args s 0 0 A) 12 [(0, .ref (g 0)), (1, va_rf a1), (2, .int a2), (3, .int a3)] [] := by
  induction n with
  | zero => intro L a1 a2 a3 h; exact False.elim h
  | succ n ih => intro L a1 a2 a3 h; exact lb_X2_oldest_12 C hK hG hA (show lj_X2_oldest_12 L a1 a2 a3 (fun L a1 a2 a3 => ll_X2_oldest_12 Q n L a1 a2 a3) Q from h) (fun L a1 a2 a3 h => ih L a1 a2 a3 h)
def lw_X2_oldest (L : LSt) (Q : Option Nat → LSt → Prop) : Prop :=
  ∃ n : Nat, ll_X2_oldest_12 Q n L none (nI (ls_ow L).length) 0
theorem lk_X2_oldest {l : Launch} {D : va_G} {t0 : Nat} {g : Nat → Nat} {ca : Nat → ClassId} {Z : va_W} {sz : Nat} {L : LSt} {Q : Option Nat → LSt → Prop} (h : lw_X2_oldest L Q) : lm_Met l yX2_oldest cX2_oldest 5 (some (.object "OwlYears$Owl")) rmX2_oldest [] D t0 g ca Z sz L (va_Qq Q (lm_B D t0 g ca (va_A (lm_ws g ca L Z) sz)) (va_A (lm_ws g ca L Z) sz)) 0 0 := by
  refine lm_entry (by decide) (Nat.le_of_ble_eq_true rfl) (fun p e s m args below meth c A eA hA hG C hK => ?_)
  rw [eA]
  unfold lw_X2_oldest at h
  show gx_W p l e (headSpec (ws_ yX2_oldest cX2_oldest 5 (some (.object "OwlYears$Owl"))) rmX2_oldest).room s m args below meth c 5 (lm_I D t0 g ca A s L []) 0 0 (MQ below (va_Qq Q (lm_B D t0 g ca A) A) args s 0 0 A) 0 [(0, .ref (g 0))] []
  refine gx_null C dX2_oldest_0 ?_
  refine gx_astore_nN (lv' := [(1, .null), (0, .ref (g 0))]) C dX2_oldest_1 rfl (by decide) rfl ?_
  refine gx_aload_n C dX2_oldest_2 rfl 1 rfl ?_
  refine gw_get C hK in_X2 rfl ll_H0 5 (by decide) q240 rfl rfl dX2_oldest_3 ?_
  refine al_rsize (n := 0) C hK ll_ol (cwV 0 C.t (lw_V q360 q361 q362 q123 q363) rfl rfl rfl ⟨rfl, dmJ2_size⟩ ⟨Nat.le_of_ble_eq_true rfl, Nat.le_of_ble_eq_true rfl⟩) (Nat.le_of_ble_eq_true rfl) ⟨Nat.zero_le _, Nat.zero_le _⟩ dX2_oldest_6 ?_
  refine gx_istore_n (lv' := [(2, .int (nI (ls_ow L).length)), (1, .null), (0, .ref (g 0))]) C dX2_oldest_9 rfl (by decide) rfl ?_
  refine gx_iconst (v := 0) C dX2_oldest_10 (by decide) ?_
  refine gx_istore_n (lv' := [(3, .int 0), (2, .int (nI (ls_ow L).length)), (1, .null), (0, .ref (g 0))]) C dX2_oldest_11 rfl (by decide) rfl ?_
  refine gx_sub [3, 2, 1, 0] rfl ?_
  obtain ⟨n, h⟩ := h
  exact le_X2_oldest_12 C hK hG hA n L none (nI (ls_ow L).length) 0 h
/-! Land.byAccount()I -/
abbrev rmX2_byAccount : Room := { frames := 0, cells := 0, slots := 0, locals := 0 }
theorem dmX2_byAccount : yX2_byAccount.cls ≠ "java/lang/invoke/MethodHandle" ∧ yX2_byAccount.cls ≠ "java/lang/invoke/VarHandle" ∧ (parseMethodDescriptor yX2_byAccount.desc).map (fun d => d.parameters.length) = some 0 := by decide +kernel
def lw_X2_byAccount (L : LSt) (Q : Int32 → LSt → Prop) : Prop :=
  (vp_in 0 4 ∧ (vp_in 1 4 ∧ (vp_in 2 4 ∧ (vp_in 3 4 ∧ Q (((((((L.1 13) + (L.1 14)) - (L.1 15)) - (ls_r L 4 0)) - (ls_r L 4 1)) - (ls_r L 4 2)) - (ls_r L 4 3)) L))))
theorem lk_X2_byAccount {l : Launch} {D : va_G} {t0 : Nat} {g : Nat → Nat} {ca : Nat → ClassId} {Z : va_W} {sz : Nat} {L : LSt} {Q : Int32 → LSt → Prop} (h : lw_X2_byAccount L Q) : lm_Met l yX2_byAccount cX2_byAccount 1 (some .int) rmX2_byAccount [] D t0 g ca Z sz L (va_Qi Q (lm_B D t0 g ca (va_A (lm_ws g ca L Z) sz)) (va_A (lm_ws g ca L Z) sz)) 0 0 := by
  refine lm_entry (by decide) (Nat.le_of_ble_eq_true rfl) (fun p e s m args below meth c A eA hA hG C hK => ?_)
  rw [eA]
  unfold lw_X2_byAccount at h
  show gx_W p l e (headSpec (ws_ yX2_byAccount cX2_byAccount 1 (some .int)) rmX2_byAccount).room s m args below meth c 1 (lm_I D t0 g ca A s L []) 0 0 (MQ below (va_Qi Q (lm_B D t0 g ca A) A) args s 0 0 A) 0 [(0, .ref (g 0))] []
  refine gx_aload_n C dX2_byAccount_0 rfl 0 rfl ?_
  refine gw_get C hK in_X2 rfl ll_H0 13 (by decide) q256 rfl rfl dX2_byAccount_1 ?_
  refine gx_aload_n C dX2_byAccount_4 rfl 0 rfl ?_
  refine gw_get C hK in_X2 rfl ll_H0 14 (by decide) q257 rfl rfl dX2_byAccount_5 ?_
  refine gx_iadd C dX2_byAccount_8 ?_
  refine gx_aload_n C dX2_byAccount_9 rfl 0 rfl ?_
  refine gw_get C hK in_X2 rfl ll_H0 15 (by decide) q259 rfl rfl dX2_byAccount_10 ?_
  refine gx_isub C dX2_byAccount_13 ?_
  refine gx_aload_n C dX2_byAccount_14 rfl 0 rfl ?_
  refine gw_get C hK in_X2 rfl ll_H0 7 (by decide) q244 rfl rfl dX2_byAccount_15 ?_
  refine gx_iconst (v := 0) C dX2_byAccount_18 (by decide) ?_
  obtain ⟨g19, h⟩ := h
  refine gw_iald C hK ll_Ha4 g19 dX2_byAccount_19 ?_
  refine gx_isub C dX2_byAccount_20 ?_
  refine gx_aload_n C dX2_byAccount_21 rfl 0 rfl ?_
  refine gw_get C hK in_X2 rfl ll_H0 7 (by decide) q244 rfl rfl dX2_byAccount_22 ?_
  refine gx_iconst (v := 1) C dX2_byAccount_25 (by decide) ?_
  obtain ⟨g26, h⟩ := h
  refine gw_iald C hK ll_Ha4 g26 dX2_byAccount_26 ?_
  refine gx_isub C dX2_byAccount_27 ?_
  refine gx_aload_n C dX2_byAccount_28 rfl 0 rfl ?_
  refine gw_get C hK in_X2 rfl ll_H0 7 (by decide) q244 rfl rfl dX2_byAccount_29 ?_
  refine gx_iconst (v := 2) C dX2_byAccount_32 (by decide) ?_
  obtain ⟨g33, h⟩ := h
  refine gw_iald C hK ll_Ha4 g33 dX2_byAccount_33 ?_
  refine gx_isub C dX2_byAccount_34 ?_
  refine gx_aload_n C dX2_byAccount_35 rfl 0 rfl ?_
  refine gw_get C hK in_X2 rfl ll_H0 7 (by decide) q244 rfl rfl dX2_byAccount_36 ?_
  refine gx_iconst (v := 3) C dX2_byAccount_39 (by decide) ?_
  obtain ⟨g40, h⟩ := h
  refine gw_iald C hK ll_Ha4 g40 dX2_byAccount_40 ?_
  refine gx_isub C dX2_byAccount_41 ?_
  exact lm_iret C h (Nat.le_refl _) (Nat.le_refl _) dX2_byAccount_42
