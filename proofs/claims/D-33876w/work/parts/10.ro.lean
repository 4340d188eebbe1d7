set_option maxRecDepth 100000
set_option maxHeartbeats 4000000
abbrev rmJ19_checkIndex : Room := { frames := 0, cells := 0, slots := 0, locals := 0 }
theorem dmJ19_checkIndex : yJ19_checkIndex.cls ≠ "java/lang/invoke/MethodHandle" ∧ yJ19_checkIndex.cls ≠ "java/lang/invoke/VarHandle" ∧ (parseMethodDescriptor yJ19_checkIndex.desc).map (fun d => d.parameters.length) = some 3 := by decide +kernel
def pj_J19_checkIndex_9 (Q : Int32 → Prop) : Prop :=
  False
theorem pb_J19_checkIndex_9 {l : Launch} {p : Program} {e : Env} {s : State} {m : MethodId} {args : Array Value} {below : List Frame} {meth : Method} {c : Code} (C : gx_C p s m args meth c cJ19_checkIndex 3 (some .int) RJ19) {Q : Int32 → Prop} (h : pj_J19_checkIndex_9 Q)  : gx_W p l e (headSpec (ws_ yJ19_checkIndex cJ19_checkIndex 3 (some .int)) rmJ19_checkIndex).room s m args below meth c 3 (ps_I s) 0 0 (MQ below (vp_Si Q) args s 0 0 (fun _ => False)) 9 [(2, .null)] [] := by
  unfold pj_J19_checkIndex_9 at h
  exact h.elim
def pw_J19_checkIndex (a0 : Int32) (a1 : Int32) (Q : Int32 → Prop) : Prop :=
  ((a0 < 0 → pj_J19_checkIndex_9 Q) ∧ (¬ (a0 < 0) → ((a0 < a1 → Q a0) ∧ (¬ (a0 < a1) → pj_J19_checkIndex_9 Q))))
theorem pk_J19_checkIndex {l : Launch} {a0 : Int32} {a1 : Int32} {Q : Int32 → Prop} (h : pw_J19_checkIndex a0 a1 Q) : Met l yJ19_checkIndex (ws_ yJ19_checkIndex cJ19_checkIndex 3 (some .int)) rmJ19_checkIndex (va_Pc [.int a0, .int a1, .null] (fun _ => True)) (vp_Si Q) 0 0 (fun _ => False) := by
  refine ps_entry (by decide) (Nat.le_of_ble_eq_true rfl) (fun p e s m args below meth c C => ?_)
  unfold pw_J19_checkIndex at h
  show gx_W p l e (headSpec (ws_ yJ19_checkIndex cJ19_checkIndex 3 (some .int)) rmJ19_checkIndex).room s m args below meth c 3 (ps_I s) 0 0 (MQ below (vp_Si Q) args s 0 0 (fun _ => False)) 0 [(0, .int a0), (1, .int a1), (2, .null)] []
  refine gx_iload_n C dJ19_checkIndex_0 rfl 0 rfl ?_
  refine gx_if_lt (tgt := 9) C dJ19_checkIndex_1 (by decide) (fun z => ?_) (fun z => ?_)
  · replace h := h.1 z
    refine gx_sub [2] rfl ?_
    exact pb_J19_checkIndex_9 C h
  · replace h := h.2 z
    refine gx_iload_n C dJ19_checkIndex_4 rfl 0 rfl ?_
    refine gx_iload_n C dJ19_checkIndex_5 rfl 1 rfl ?_
    refine gx_icmp_lt (tgt := 16) C dJ19_checkIndex_6 (by decide) (fun z => ?_) (fun z => ?_)
    · replace h := h.1 z
      refine gx_iload_n C dJ19_checkIndex_16 rfl 0 rfl ?_
      exact ps_iret C h dJ19_checkIndex_17
    · replace h := h.2 z
      refine gx_sub [2] rfl ?_
      exact pb_J19_checkIndex_9 C h
abbrev rmJ24_checkIndex : Room := { frames := 1, cells := 0, slots := 0, locals := 22 }
theorem dmJ24_checkIndex : yJ24_checkIndex.cls ≠ "java/lang/invoke/MethodHandle" ∧ yJ24_checkIndex.cls ≠ "java/lang/invoke/VarHandle" ∧ (parseMethodDescriptor yJ24_checkIndex.desc).map (fun d => d.parameters.length) = some 2 := by decide +kernel
def pw_J24_checkIndex (a0 : Int32) (a1 : Int32) (Q : Int32 → Prop) : Prop :=
  pw_J19_checkIndex a0 a1 (fun r3 => Q r3)
theorem pk_J24_checkIndex {l : Launch} {a0 : Int32} {a1 : Int32} {Q : Int32 → Prop} (h : pw_J24_checkIndex a0 a1 Q) : Met l yJ24_checkIndex (ws_ yJ24_checkIndex cJ24_checkIndex 2 (some .int)) rmJ24_checkIndex (va_Pc [.int a0, .int a1] (fun _ => True)) (vp_Si Q) 0 0 (fun _ => False) := by
  refine ps_entry (by decide) (Nat.le_of_ble_eq_true rfl) (fun p e s m args below meth c C => ?_)
  unfold pw_J24_checkIndex at h
  show gx_W p l e (headSpec (ws_ yJ24_checkIndex cJ24_checkIndex 2 (some .int)) rmJ24_checkIndex).room s m args below meth c 2 (ps_I s) 0 0 (MQ below (vp_Si Q) args s 0 0 (fun _ => False)) 0 [(0, .int a0), (1, .int a1)] []
  refine gx_iload_n C dJ24_checkIndex_0 rfl 0 rfl ?_
  refine gx_iload_n C dJ24_checkIndex_1 rfl 1 rfl ?_
  refine gx_null C dJ24_checkIndex_2 ?_
  refine gx_calls_i (rest := []) C (pk_J19_checkIndex h) (va_cwS 3 C.t (lw_S q371 q372 q143 q373) rfl rfl rfl dmJ19_checkIndex ⟨Nat.le_of_ble_eq_true rfl, Nat.le_of_ble_eq_true rfl⟩) rfl rfl (Nat.le_of_ble_eq_true rfl) ⟨Nat.zero_le _, Nat.zero_le _⟩ dJ24_checkIndex_3 (fun r3 h => ?_)
  exact ps_iret C h dJ24_checkIndex_6
abbrev rmJ2_size : Room := { frames := 0, cells := 0, slots := 0, locals := 0 }
theorem dmJ2_size : yJ2_size.cls ≠ "java/lang/invoke/MethodHandle" ∧ yJ2_size.cls ≠ "java/lang/invoke/VarHandle" ∧ (parseMethodDescriptor yJ2_size.desc).map (fun d => d.parameters.length) = some 0 := by decide +kernel
def rw_J2_size (n : Int32) (Q : Int32 → Prop) : Prop :=
  Q n
theorem rk_J2_size {l : Launch} {D : va_G} {ca : Nat → ClassId} {a : Nat} {md : Int32} {e0 : Nat} {n : Int32} {Q : Int32 → Prop} (h : rw_J2_size n Q) : Met l yJ2_size (ws_ yJ2_size cJ2_size 1 (some .int)) rmJ2_size (va_Pc [.ref a] (ro_P D ca [(a, .inr (8, [.int md, .ref e0, .int n]))])) (vp_Si Q) 0 0 (fun _ => False) := by
  refine ro_entry (by decide) (Nat.le_of_ble_eq_true rfl) (fun p e s m args below meth c C hK => ?_)
  unfold rw_J2_size at h
  show gx_W p l e (headSpec (ws_ yJ2_size cJ2_size 1 (some .int)) rmJ2_size).room s m args below meth c 1 (ro_I D s [(a, .inr (8, [.int md, .ref e0, .int n]))]) 0 0 (MQ below (vp_Si Q) args s 0 0 (fun _ => False)) 0 [(0, .ref a)] []
  refine gx_aload_n C dJ2_size_0 rfl 0 rfl ?_
  refine gw_get C hK in_J2 rfl (ro_H 0 rfl) 2 (by decide) q188 rfl rfl dJ2_size_1 ?_
  exact ro_iret C h dJ2_size_4
abbrev rmJ2_isEmpty : Room := { frames := 0, cells := 0, slots := 0, locals := 0 }
theorem dmJ2_isEmpty : yJ2_isEmpty.cls ≠ "java/lang/invoke/MethodHandle" ∧ yJ2_isEmpty.cls ≠ "java/lang/invoke/VarHandle" ∧ (parseMethodDescriptor yJ2_isEmpty.desc).map (fun d => d.parameters.length) = some 0 := by decide +kernel
def rw_J2_isEmpty (n : Int32) (Q : Int32 → Prop) : Prop :=
  Q (if n = 0 then 1 else 0)
theorem rk_J2_isEmpty {l : Launch} {D : va_G} {ca : Nat → ClassId} {a : Nat} {md : Int32} {e0 : Nat} {n : Int32} {Q : Int32 → Prop} (h : rw_J2_isEmpty n Q) : Met l yJ2_isEmpty (ws_ yJ2_isEmpty cJ2_isEmpty 1 (some .boolean)) rmJ2_isEmpty (va_Pc [.ref a] (ro_P D ca [(a, .inr (8, [.int md, .ref e0, .int n]))])) (vp_Si Q) 0 0 (fun _ => False) := by
  refine ro_entry (by decide) (Nat.le_of_ble_eq_true rfl) (fun p e s m args below meth c C hK => ?_)
  unfold rw_J2_isEmpty at h
  show gx_W p l e (headSpec (ws_ yJ2_isEmpty cJ2_isEmpty 1 (some .boolean)) rmJ2_isEmpty).room s m args below meth c 1 (ro_I D s [(a, .inr (8, [.int md, .ref e0, .int n]))]) 0 0 (MQ below (vp_Si Q) args s 0 0 (fun _ => False)) 0 [(0, .ref a)] []
  refine gx_aload_n C dJ2_isEmpty_0 rfl 0 rfl ?_
  refine gw_get C hK in_J2 rfl (ro_H 0 rfl) 2 (by decide) q188 rfl rfl dJ2_isEmpty_1 ?_
  refine gx_phii (t := (if n = 0 then 1 else 0)) (pc2 := 12) (lv2 := [(0, .ref a)]) (rest2 := []) (fun key => ?_) ?_
  · refine gx_if_ne (tgt := 11) C dJ2_isEmpty_4 (by decide) (fun z1 => ?_) (fun z1 => ?_)
    · refine gx_iconst (v := 0) C dJ2_isEmpty_11 (by decide) ?_
      exact gx_casti (if_neg z1) key
    · refine gx_iconst (v := 1) C dJ2_isEmpty_7 (by decide) ?_
      refine gx_goto (tgt := 12) C dJ2_isEmpty_8 (by decide) ?_
      exact gx_casti (if_pos z1) key
  exact ro_zret C (by repeat' (first | rfl | split)) h dJ2_isEmpty_12
abbrev rmJ2_elementData : Room := { frames := 0, cells := 0, slots := 0, locals := 0 }
theorem dmJ2_elementData : yJ2_elementData.cls ≠ "java/lang/invoke/MethodHandle" ∧ yJ2_elementData.cls ≠ "java/lang/invoke/VarHandle" ∧ (parseMethodDescriptor yJ2_elementData.desc).map (fun d => d.parameters.length) = some 1 := by decide +kernel
def rw_J2_elementData (n : Int32) (cp : Nat) (f : Nat → Option Nat) (a1 : Int32) (Q : Option Nat → Prop) : Prop :=
  (vp_in a1 cp ∧ Q (f a1.toNatClampNeg))
theorem rk_J2_elementData {l : Launch} {D : va_G} {ca : Nat → ClassId} {a : Nat} {md : Int32} {e0 : Nat} {n : Int32} {cp : Nat} {f : Nat → Option Nat} {a1 : Int32} {Q : Option Nat → Prop} (h : rw_J2_elementData n cp f a1 Q) : Met l yJ2_elementData (ws_ yJ2_elementData cJ2_elementData 2 (some (.object "java/lang/Object"))) rmJ2_elementData (va_Pc [.ref a, .int a1] (ro_P D ca [(a, .inr (8, [.int md, .ref e0, .int n])), (e0, .inl (ca 3, cp, .inr (.inr (.inr (.inr f)))))])) (va_Sq Q) 0 0 (fun _ => False) := by
  refine ro_entry (by decide) (Nat.le_of_ble_eq_true rfl) (fun p e s m args below meth c C hK => ?_)
  unfold rw_J2_elementData at h
  show gx_W p l e (headSpec (ws_ yJ2_elementData cJ2_elementData 2 (some (.object "java/lang/Object"))) rmJ2_elementData).room s m args below meth c 2 (ro_I D s [(a, .inr (8, [.int md, .ref e0, .int n])), (e0, .inl (ca 3, cp, .inr (.inr (.inr (.inr f)))))]) 0 0 (MQ below (va_Sq Q) args s 0 0 (fun _ => False)) 0 [(0, .ref a), (1, .int a1)] []
  refine gx_aload_n C dJ2_elementData_0 rfl 0 rfl ?_
  refine gw_get C hK in_J2 rfl (ro_H 0 rfl) 1 (by decide) q187 rfl rfl dJ2_elementData_1 ?_
  refine gx_iload_n C dJ2_elementData_4 rfl 1 rfl ?_
  obtain ⟨g5, h⟩ := h
  refine gw_aldq C hK 3 rfl (ro_H 1 rfl) g5 dJ2_elementData_5 ?_
  exact ro_aret (Or.inl ⟨_, rfl⟩) C h dJ2_elementData_6
abbrev rmJ2_get : Room := { frames := 2, cells := 0, slots := 0, locals := 43 }
theorem dmJ2_get : yJ2_get.cls ≠ "java/lang/invoke/MethodHandle" ∧ yJ2_get.cls ≠ "java/lang/invoke/VarHandle" ∧ (parseMethodDescriptor yJ2_get.desc).map (fun d => d.parameters.length) = some 1 := by decide +kernel
def rw_J2_get (n : Int32) (cp : Nat) (f : Nat → Option Nat) (a1 : Int32) (Q : Option Nat → Prop) : Prop :=
  pw_J24_checkIndex a1 n (fun r5 => rw_J2_elementData n cp f a1 (fun r11 => Q r11))
theorem rk_J2_get {l : Launch} {D : va_G} {ca : Nat → ClassId} {a : Nat} {md : Int32} {e0 : Nat} {n : Int32} {cp : Nat} {f : Nat → Option Nat} {a1 : Int32} {Q : Option Nat → Prop} (h : rw_J2_get n cp f a1 Q) : Met l yJ2_get (ws_ yJ2_get cJ2_get 2 (some (.object "java/lang/Object"))) rmJ2_get (va_Pc [.ref a, .int a1] (ro_P D ca [(a, .inr (8, [.int md, .ref e0, .int n])), (e0, .inl (ca 3, cp, .inr (.inr (.inr (.inr f)))))])) (va_Sq Q) 0 0 (fun _ => False) := by
  refine ro_entry (by decide) (Nat.le_of_ble_eq_true rfl) (fun p e s m args below meth c C hK => ?_)
  unfold rw_J2_get at h
  show gx_W p l e (headSpec (ws_ yJ2_get cJ2_get 2 (some (.object "java/lang/Object"))) rmJ2_get).room s m args below meth c 2 (ro_I D s [(a, .inr (8, [.int md, .ref e0, .int n])), (e0, .inl (ca 3, cp, .inr (.inr (.inr (.inr f)))))]) 0 0 (MQ below (va_Sq Q) args s 0 0 (fun _ => False)) 0 [(0, .ref a), (1, .int a1)] []
  refine gx_iload_n C dJ2_get_0 rfl 1 rfl ?_
  refine gx_aload_n C dJ2_get_1 rfl 0 rfl ?_
  refine gw_get C hK in_J2 rfl (ro_H 0 rfl) 2 (by decide) q188 rfl rfl dJ2_get_2 ?_
  refine gx_calls_i (rest := []) C (pk_J24_checkIndex h) (va_cwS 2 C.t (lw_S q368 q369 q150 q370) rfl rfl rfl dmJ24_checkIndex ⟨Nat.le_of_ble_eq_true rfl, Nat.le_of_ble_eq_true rfl⟩) rfl rfl (Nat.le_of_ble_eq_true rfl) ⟨Nat.le_of_ble_eq_true rfl, Nat.le_of_ble_eq_true rfl⟩ dJ2_get_5 (fun r5 h => ?_)
  refine gx_pop C dJ2_get_8 rfl ?_
  refine gx_aload_n C dJ2_get_9 rfl 0 rfl ?_
  refine gx_iload_n C dJ2_get_10 rfl 1 rfl ?_
  refine gw_roq (rest := []) C (rk_J2_elementData h) (cwV 1 C.t (lw_V q374 q375 q376 q123 q377) rfl rfl rfl ⟨rfl, dmJ2_elementData⟩ ⟨Nat.le_of_ble_eq_true rfl, Nat.le_of_ble_eq_true rfl⟩) (ro_pre hK (ci := 8) (q := (RJ2, TJ2, 3)) rfl (ro_H 0 rfl) (fun H locs hI => hI.2.2)) rfl rfl (Nat.le_of_ble_eq_true rfl) ⟨Nat.le_of_ble_eq_true rfl, Nat.le_of_ble_eq_true rfl⟩ dJ2_get_11 (fun r11 h => ?_)
  exact ro_aret (Or.inl ⟨_, rfl⟩) C h dJ2_get_14
abbrev rmX5_size : Room := { frames := 0, cells := 0, slots := 0, locals := 0 }
theorem dmX5_size : yX5_size.cls ≠ "java/lang/invoke/MethodHandle" ∧ yX5_size.cls ≠ "java/lang/invoke/VarHandle" ∧ (parseMethodDescriptor yX5_size.desc).map (fun d => d.parameters.length) = some 0 := by decide +kernel
def rw_X5_size (f : Nat → Int32) (Q : Int32 → Prop) : Prop :=
  (vp_in 0 2 ∧ (vp_in 1 2 ∧ Q ((if (f (0 : Int32).toNatClampNeg) = (-1) then 0 else 1) + (if (f (1 : Int32).toNatClampNeg) = (-1) then 0 else 1))))
theorem rk_X5_size {l : Launch} {D : va_G} {ca : Nat → ClassId} {b : Nat} {sq : Int32} {r : Nat} {rg : Int64} {f : Nat → Int32} {Q : Int32 → Prop} (h : rw_X5_size f Q) : Met l yX5_size (ws_ yX5_size cX5_size 1 (some .int)) rmX5_size (va_Pc [.ref b] (ro_P D ca [(b, .inr (4, [.int sq, .ref r, .long rg])), (r, .inl (ca 0, 2, .inl f))])) (vp_Si Q) 0 0 (fun _ => False) := by
  refine ro_entry (by decide) (Nat.le_of_ble_eq_true rfl) (fun p e s m args below meth c C hK => ?_)
  unfold rw_X5_size at h
  show gx_W p l e (headSpec (ws_ yX5_size cX5_size 1 (some .int)) rmX5_size).room s m args below meth c 1 (ro_I D s [(b, .inr (4, [.int sq, .ref r, .long rg])), (r, .inl (ca 0, 2, .inl f))]) 0 0 (MQ below (vp_Si Q) args s 0 0 (fun _ => False)) 0 [(0, .ref b)] []
  refine gx_aload_n C dX5_size_0 rfl 0 rfl ?_
  refine gw_get C hK in_X5 rfl (ro_H 0 rfl) 1 (by decide) q392 rfl rfl dX5_size_1 ?_
  refine gx_iconst (v := 0) C dX5_size_4 (by decide) ?_
  obtain ⟨g5, h⟩ := h
  refine gw_iald C hK (ro_H 1 rfl) g5 dX5_size_5 ?_
  refine gx_iconst (v := (-1)) C dX5_size_6 (by decide) ?_
  refine gx_phii (t := (if (f (0 : Int32).toNatClampNeg) = (-1) then 0 else 1)) (pc2 := 15) (lv2 := [(0, .ref b)]) (rest2 := []) (fun key => ?_) ?_
  · refine gx_icmp_ne (tgt := 14) C dX5_size_7 (by decide) (fun z1 => ?_) (fun z1 => ?_)
    · refine gx_iconst (v := 1) C dX5_size_14 (by decide) ?_
      exact gx_casti (if_neg z1) key
    · refine gx_iconst (v := 0) C dX5_size_10 (by decide) ?_
      refine gx_goto (tgt := 15) C dX5_size_11 (by decide) ?_
      exact gx_casti (if_pos z1) key
  refine gx_aload_n C dX5_size_15 rfl 0 rfl ?_
  refine gw_get C hK in_X5 rfl (ro_H 0 rfl) 1 (by decide) q392 rfl rfl dX5_size_16 ?_
  refine gx_iconst (v := 1) C dX5_size_19 (by decide) ?_
  obtain ⟨g20, h⟩ := h
  refine gw_iald C hK (ro_H 1 rfl) g20 dX5_size_20 ?_
  refine gx_iconst (v := (-1)) C dX5_size_21 (by decide) ?_
  refine gx_phii (t := (if (f (1 : Int32).toNatClampNeg) = (-1) then 0 else 1)) (pc2 := 30) (lv2 := [(0, .ref b)]) (rest2 := [.int ((if (f (0 : Int32).toNatClampNeg) = (-1) then 0 else 1))]) (fun key => ?_) ?_
  · refine gx_icmp_ne (tgt := 29) C dX5_size_22 (by decide) (fun z1 => ?_) (fun z1 => ?_)
    · refine gx_iconst (v := 1) C dX5_size_29 (by decide) ?_
      exact gx_casti (if_neg z1) key
    · refine gx_iconst (v := 0) C dX5_size_25 (by decide) ?_
      refine gx_goto (tgt := 30) C dX5_size_26 (by decide) ?_
      exact gx_casti (if_pos z1) key
  refine gx_iadd C dX5_size_30 ?_
  exact ro_iret C h dX5_size_31
abbrev rmX5_isLivedIn : Room := { frames := 1, cells := 0, slots := 0, locals := 20 }
theorem dmX5_isLivedIn : yX5_isLivedIn.cls ≠ "java/lang/invoke/MethodHandle" ∧ yX5_isLivedIn.cls ≠ "java/lang/invoke/VarHandle" ∧ (parseMethodDescriptor yX5_isLivedIn.desc).map (fun d => d.parameters.length) = some 0 := by decide +kernel
def rw_X5_isLivedIn (f : Nat → Int32) (Q : Int32 → Prop) : Prop :=
  rw_X5_size f (fun r1 => Q (if r1 ≤ 0 then 0 else 1))
theorem rk_X5_isLivedIn {l : Launch} {D : va_G} {ca : Nat → ClassId} {b : Nat} {sq : Int32} {r : Nat} {rg : Int64} {f : Nat → Int32} {Q : Int32 → Prop} (h : rw_X5_isLivedIn f Q) : Met l yX5_isLivedIn (ws_ yX5_isLivedIn cX5_isLivedIn 1 (some .boolean)) rmX5_isLivedIn (va_Pc [.ref b] (ro_P D ca [(b, .inr (4, [.int sq, .ref r, .long rg])), (r, .inl (ca 0, 2, .inl f))])) (vp_Si Q) 0 0 (fun _ => False) := by
  refine ro_entry (by decide) (Nat.le_of_ble_eq_true rfl) (fun p e s m args below meth c C hK => ?_)
  unfold rw_X5_isLivedIn at h
  show gx_W p l e (headSpec (ws_ yX5_isLivedIn cX5_isLivedIn 1 (some .boolean)) rmX5_isLivedIn).room s m args below meth c 1 (ro_I D s [(b, .inr (4, [.int sq, .ref r, .long rg])), (r, .inl (ca 0, 2, .inl f))]) 0 0 (MQ below (vp_Si Q) args s 0 0 (fun _ => False)) 0 [(0, .ref b)] []
  refine gx_aload_n C dX5_isLivedIn_0 rfl 0 rfl ?_
  refine gw_roi (rest := []) C (rk_X5_size h) (cwV 0 C.t (lw_V q1443 q1342 q1343 q151 q1344) rfl rfl rfl ⟨rfl, dmX5_size⟩ ⟨Nat.le_of_ble_eq_true rfl, Nat.le_of_ble_eq_true rfl⟩) (ro_pre hK (ci := 4) (q := (RX5, TX5, 3)) rfl (ro_H 0 rfl) (fun H locs hI => hI.2.2)) rfl rfl (Nat.le_of_ble_eq_true rfl) ⟨Nat.le_of_ble_eq_true rfl, Nat.le_of_ble_eq_true rfl⟩ dX5_isLivedIn_1 (fun r1 h => ?_)
  refine gx_phii (t := (if r1 ≤ 0 then 0 else 1)) (pc2 := 12) (lv2 := [(0, .ref b)]) (rest2 := []) (fun key => ?_) ?_
  · refine gx_if_le (tgt := 11) C dX5_isLivedIn_4 (by decide) (fun z1 => ?_) (fun z1 => ?_)
    · refine gx_iconst (v := 0) C dX5_isLivedIn_11 (by decide) ?_
      exact gx_casti (if_pos z1) key
    · refine gx_iconst (v := 1) C dX5_isLivedIn_7 (by decide) ?_
      refine gx_goto (tgt := 12) C dX5_isLivedIn_8 (by decide) ?_
      exact gx_casti (if_neg z1) key
  exact ro_zret C (by repeat' (first | rfl | split)) h dX5_isLivedIn_12
abbrev rmX6_isChildOf : Room := { frames := 0, cells := 0, slots := 0, locals := 0 }
theorem dmX6_isChildOf : yX6_isChildOf.cls ≠ "java/lang/invoke/MethodHandle" ∧ yX6_isChildOf.cls ≠ "java/lang/invoke/VarHandle" ∧ (parseMethodDescriptor yX6_isChildOf.desc).map (fun d => d.parameters.length) = some 1 := by decide +kernel
def rw_X6_isChildOf (f2 : Int32) (f3 : Int32) (a1 : Int32) (Q : Int32 → Prop) : Prop :=
  Q (if f2 = a1 then 1 else (if f3 = a1 then 1 else 0))
theorem rk_X6_isChildOf {l : Launch} {D : va_G} {ca : Nat → ClassId} {o : Nat} {f0 : Int32} {f1 : Int32} {f4 : Int32} {f5 : Int32} {f6 : Int32} {f2 : Int32} {f3 : Int32} {a1 : Int32} {Q : Int32 → Prop} (h : rw_X6_isChildOf f2 f3 a1 Q) : Met l yX6_isChildOf (ws_ yX6_isChildOf cX6_isChildOf 2 (some .boolean)) rmX6_isChildOf (va_Pc [.ref o, .int a1] (ro_P D ca [(o, .inr (5, [.int f0, .int f1, .int f2, .int f3, .int f4, .int f5, .int f6]))])) (vp_Si Q) 0 0 (fun _ => False) := by
  refine ro_entry (by decide) (Nat.le_of_ble_eq_true rfl) (fun p e s m args below meth c C hK => ?_)
  unfold rw_X6_isChildOf at h
  show gx_W p l e (headSpec (ws_ yX6_isChildOf cX6_isChildOf 2 (some .boolean)) rmX6_isChildOf).room s m args below meth c 2 (ro_I D s [(o, .inr (5, [.int f0, .int f1, .int f2, .int f3, .int f4, .int f5, .int f6]))]) 0 0 (MQ below (vp_Si Q) args s 0 0 (fun _ => False)) 0 [(0, .ref o), (1, .int a1)] []
  refine gx_aload_n C dX6_isChildOf_0 rfl 0 rfl ?_
  refine gw_get C hK in_X6 rfl (ro_H 0 rfl) 2 (by decide) q1230 rfl rfl dX6_isChildOf_1 ?_
  refine gx_iload_n C dX6_isChildOf_4 rfl 1 rfl ?_
  refine gx_phii (t := (if f2 = a1 then 1 else (if f3 = a1 then 1 else 0))) (pc2 := 21) (lv2 := [(0, .ref o), (1, .int a1)]) (rest2 := []) (fun key => ?_) ?_
  · refine gx_icmp_eq (tgt := 16) C dX6_isChildOf_5 (by decide) (fun z1 => ?_) (fun z1 => ?_)
    · refine gx_iconst (v := 1) C dX6_isChildOf_16 (by decide) ?_
      refine gx_goto (tgt := 21) C dX6_isChildOf_17 (by decide) ?_
      exact gx_casti (if_pos z1) key
    · refine gx_aload_n C dX6_isChildOf_8 rfl 0 rfl ?_
      refine gw_get C hK in_X6 rfl (ro_H 0 rfl) 3 (by decide) q1232 rfl rfl dX6_isChildOf_9 ?_
      refine gx_iload_n C dX6_isChildOf_12 rfl 1 rfl ?_
      refine gx_icmp_ne (tgt := 20) C dX6_isChildOf_13 (by decide) (fun z2 => ?_) (fun z2 => ?_)
      · refine gx_iconst (v := 0) C dX6_isChildOf_20 (by decide) ?_
        exact gx_casti ((if_neg z1).trans (if_neg z2)) key
      · refine gx_iconst (v := 1) C dX6_isChildOf_16 (by decide) ?_
        refine gx_goto (tgt := 21) C dX6_isChildOf_17 (by decide) ?_
        exact gx_casti ((if_neg z1).trans (if_pos z2)) key
  exact ro_zret C (by repeat' (first | rfl | split)) h dX6_isChildOf_21
abbrev rmX4_hashCode : Room := { frames := 0, cells := 0, slots := 0, locals := 0 }
theorem dmX4_hashCode : yX4_hashCode.cls ≠ "java/lang/invoke/MethodHandle" ∧ yX4_hashCode.cls ≠ "java/lang/invoke/VarHandle" ∧ (parseMethodDescriptor yX4_hashCode.desc).map (fun d => d.parameters.length) = some 0 := by decide +kernel
def rw_X4_hashCode (x0 : Int32) (y0 : Int32) (Q : Int32 → Prop) : Prop :=
  Q ((8 * x0) + y0)
theorem rk_X4_hashCode {l : Launch} {D : va_G} {ca : Nat → ClassId} {q : Nat} {q2 : Nat} {x0 : Int32} {y0 : Int32} {Q : Int32 → Prop} (h : rw_X4_hashCode x0 y0 Q) : Met l yX4_hashCode (ws_ yX4_hashCode cX4_hashCode 1 (some .int)) rmX4_hashCode (va_Pc [.ref q] (ro_P D ca [(q, .inr (3, [.int x0, .int y0]))])) (vp_Si Q) 0 0 (fun _ => False) := by
  refine ro_entry (by decide) (Nat.le_of_ble_eq_true rfl) (fun p e s m args below meth c C hK => ?_)
  unfold rw_X4_hashCode at h
  show gx_W p l e (headSpec (ws_ yX4_hashCode cX4_hashCode 1 (some .int)) rmX4_hashCode).room s m args below meth c 1 (ro_I D s [(q, .inr (3, [.int x0, .int y0]))]) 0 0 (MQ below (vp_Si Q) args s 0 0 (fun _ => False)) 0 [(0, .ref q)] []
  refine gx_bipush (v := 8) C dX4_hashCode_0 (by decide) ?_
  refine gx_aload_n C dX4_hashCode_2 rfl 0 rfl ?_
  refine gw_get C hK in_X4 rfl (ro_H 0 rfl) 0 (by decide) q483 rfl rfl dX4_hashCode_3 ?_
  refine gx_imul C dX4_hashCode_6 ?_
  refine gx_aload_n C dX4_hashCode_7 rfl 0 rfl ?_
  refine gw_get C hK in_X4 rfl (ro_H 0 rfl) 1 (by decide) q484 rfl rfl dX4_hashCode_8 ?_
  refine gx_iadd C dX4_hashCode_11 ?_
  exact ro_iret C h dX4_hashCode_12
abbrev rmX4_equals : Room := { frames := 0, cells := 0, slots := 0, locals := 0 }
theorem dmX4_equals : yX4_equals.cls ≠ "java/lang/invoke/MethodHandle" ∧ yX4_equals.cls ≠ "java/lang/invoke/VarHandle" ∧ (parseMethodDescriptor yX4_equals.desc).map (fun d => d.parameters.length) = some 1 := by decide +kernel
def rj_X4_equals_40 (x0 : Int32) (y0 : Int32) (x1 : Int32) (y1 : Int32) (s0 : Int32) (Q : Int32 → Prop) : Prop :=
  (narrow .boolean (.int s0) = .int s0 ∧ Q s0)
theorem rb_X4_equals_40 {l : Launch} {p : Program} {e : Env} {s : State} {m : MethodId} {args : Array Value} {below : List Frame} {meth : Method} {c : Code} {D : va_G} {ca : Nat → ClassId} {q : Nat} {q2 : Nat} (C : gx_C p s m args meth c cX4_equals 2 (some .boolean) RX4) (hK : gK D ca s) {x0 : Int32} {y0 : Int32} {x1 : Int32} {y1 : Int32} {s0 : Int32} {Q : Int32 → Prop} (h : rj_X4_equals_40 x0 y0 x1 y1 s0 Q)  : gx_W p l e (headSpec (ws_ yX4_equals cX4_equals 2 (some .boolean)) rmX4_equals).room s m args below meth c 2 (ro_I D s [(q, .inr (3, [.int x0, .int y0])), (q2, .inr (3, [.int x1, .int y1]))]) 0 0 (MQ below (vp_Si Q) args s 0 0 (fun _ => False)) 40 [] [.int s0] := by
  unfold rj_X4_equals_40 at h
  obtain ⟨g40, h⟩ := h
  exact ro_zret C g40 h dX4_equals_40
def rj_X4_equals_39 (x0 : Int32) (y0 : Int32) (x1 : Int32) (y1 : Int32) (Q : Int32 → Prop) : Prop :=
  rj_X4_equals_40 x0 y0 x1 y1 0 Q
theorem rb_X4_equals_39 {l : Launch} {p : Program} {e : Env} {s : State} {m : MethodId} {args : Array Value} {below : List Frame} {meth : Method} {c : Code} {D : va_G} {ca : Nat → ClassId} {q : Nat} {q2 : Nat} (C : gx_C p s m args meth c cX4_equals 2 (some .boolean) RX4) (hK : gK D ca s) {x0 : Int32} {y0 : Int32} {x1 : Int32} {y1 : Int32} {Q : Int32 → Prop} (h : rj_X4_equals_39 x0 y0 x1 y1 Q)  : gx_W p l e (headSpec (ws_ yX4_equals cX4_equals 2 (some .boolean)) rmX4_equals).room s m args below meth c 2 (ro_I D s [(q, .inr (3, [.int x0, .int y0])), (q2, .inr (3, [.int x1, .int y1]))]) 0 0 (MQ below (vp_Si Q) args s 0 0 (fun _ => False)) 39 [] [] := by
  unfold rj_X4_equals_39 at h
  refine gx_iconst (v := 0) C dX4_equals_39 (by decide) ?_
  exact rb_X4_equals_40 C hK h
def rw_X4_equals (x0 : Int32) (y0 : Int32) (x1 : Int32) (y1 : Int32) (Q : Int32 → Prop) : Prop :=
  (((1 : Int32) = 0 → rj_X4_equals_39 x0 y0 x1 y1 Q) ∧ (¬ (1 : Int32) = 0 → ((x1 = x0 → ((y1 = y0 → rj_X4_equals_40 x0 y0 x1 y1 1 Q) ∧ (¬ (y1 = y0) → rj_X4_equals_39 x0 y0 x1 y1 Q))) ∧ (¬ (x1 = x0) → rj_X4_equals_39 x0 y0 x1 y1 Q))))
theorem rk_X4_equals {l : Launch} {D : va_G} {ca : Nat → ClassId} {q : Nat} {q2 : Nat} {x0 : Int32} {y0 : Int32} {x1 : Int32} {y1 : Int32} {Q : Int32 → Prop} (h : rw_X4_equals x0 y0 x1 y1 Q) : Met l yX4_equals (ws_ yX4_equals cX4_equals 2 (some .boolean)) rmX4_equals (va_Pc [.ref q, .ref q2] (ro_P D ca [(q, .inr (3, [.int x0, .int y0])), (q2, .inr (3, [.int x1, .int y1]))])) (vp_Si Q) 0 0 (fun _ => False) := by
  refine ro_entry (by decide) (Nat.le_of_ble_eq_true rfl) (fun p e s m args below meth c C hK => ?_)
  unfold rw_X4_equals at h
  show gx_W p l e (headSpec (ws_ yX4_equals cX4_equals 2 (some .boolean)) rmX4_equals).room s m args below meth c 2 (ro_I D s [(q, .inr (3, [.int x0, .int y0])), (q2, .inr (3, [.int x1, .int y1]))]) 0 0 (MQ below (vp_Si Q) args s 0 0 (fun _ => False)) 0 [(0, .ref q), (1, .ref q2)] []
  refine gx_aload_n C dX4_equals_0 rfl 1 rfl ?_
  refine gw_inst C hK (ci := 3) rfl (ro_H 1 rfl) q1128 dX4_equals_1 ?_
  refine gx_if_eq (tgt := 39) C dX4_equals_4 (by decide) (fun z => ?_) (fun z => ?_)
  · replace h := h.1 z
    refine gx_sub [] rfl ?_
    exact rb_X4_equals_39 C hK h
  · replace h := h.2 z
    refine gx_aload_n C dX4_equals_7 rfl 1 rfl ?_
    refine gw_cast C hK (ci := 3) rfl (ro_H 1 rfl) q1128 dX4_equals_8 ?_
    refine gw_get C hK in_X4 rfl (ro_H 1 rfl) 0 (by decide) q483 rfl rfl dX4_equals_11 ?_
    refine gx_aload_n C dX4_equals_14 rfl 0 rfl ?_
    refine gw_get C hK in_X4 rfl (ro_H 0 rfl) 0 (by decide) q483 rfl rfl dX4_equals_15 ?_
    refine gx_icmp_ne (tgt := 39) C dX4_equals_18 (by decide) (fun z => ?_) (fun z => ?_)
    · replace h := h.2 z
      refine gx_sub [] rfl ?_
      exact rb_X4_equals_39 C hK h
    · replace h := h.1 z
      refine gx_aload_n C dX4_equals_21 rfl 1 rfl ?_
      refine gw_cast C hK (ci := 3) rfl (ro_H 1 rfl) q1128 dX4_equals_22 ?_
      refine gw_get C hK in_X4 rfl (ro_H 1 rfl) 1 (by decide) q484 rfl rfl dX4_equals_25 ?_
      refine gx_aload_n C dX4_equals_28 rfl 0 rfl ?_
      refine gw_get C hK in_X4 rfl (ro_H 0 rfl) 1 (by decide) q484 rfl rfl dX4_equals_29 ?_
      refine gx_icmp_ne (tgt := 39) C dX4_equals_32 (by decide) (fun z => ?_) (fun z => ?_)
      · replace h := h.2 z
        refine gx_sub [] rfl ?_
        exact rb_X4_equals_39 C hK h
      · replace h := h.1 z
        refine gx_iconst (v := 1) C dX4_equals_35 (by decide) ?_
        refine gx_goto (tgt := 40) C dX4_equals_36 (by decide) ?_
        refine gx_sub [] rfl ?_
        exact rb_X4_equals_40 C hK h
