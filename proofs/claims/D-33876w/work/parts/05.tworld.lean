/-! All classes whose objects the worlds hold; the twin's state and its world -/
abbrev gcl : List vw_C := [(RX3, TX3, 16), (RX1, TX1, 4), (RX2, TX2, 18), (RX4, TX4, 2), (RX5, TX5, 3), (RX6, TX6, 7), (RX7, TX7, 4), (RX8, TX8, 3), (RJ2, TJ2, 3), (RJ4, TJ4, 8), (RJ25, TJ25, 4), (RJ6, TJ6, 4), (RJ12, TJ12, 6), (RJ14, TJ14, 6), (RJ23, TJ23, 6)]
/-- the twin's state: whole-number fields by their slot; int arrays (0 state, 1 history, 2 snapshot, 3 kept, 4 marks, 5 others, 6 text); the ranges -/
abbrev MS : Type := (Nat → Int32) × (Nat → Nat → Int32) × (Nat → Int64)
def ms_s (M : MS) (k : Nat) (v : Int32) : MS := (upd M.1 k v, M.2.1, M.2.2)
def ms_a (M : MS) (j : Nat) (i v : Int32) : MS := (M.1, va_up M.2.1 j (upd (M.2.1 j) i.toNatClampNeg v), M.2.2)
def ms_l (M : MS) (i : Int32) (v : Int64) : MS := (M.1, M.2.1, vp_updL M.2.2 i.toNatClampNeg v)
abbrev ms_r (M : MS) (j : Nat) (i : Int32) : Int32 := M.2.1 j i.toNatClampNeg
abbrev ms_q (M : MS) (i : Int32) : Int64 := M.2.2 i.toNatClampNeg
def ms_fs (g : Nat → Nat) (M : MS) : List Value := [.int (M.1 0), .ref (g 1), .ref (g 2), .int (M.1 3), .ref (g 3), .int (M.1 5), .ref (g 4), .ref (g 5), .ref (g 6), .ref (g 7), .ref (g 8), .int (M.1 11), .int (M.1 12), .int (M.1 13), .int (M.1 14), .int (M.1 15)]
def ms_ws (g : Nat → Nat) (cI cJ : ClassId) (M : MS) : va_W := [(g 0, .inr (0, ms_fs g M)), (g 1, .inl (cI, 754, .inl (M.2.1 0))), (g 2, .inl (cI, 4524, .inl (M.2.1 1))), (g 3, .inl (cI, 754, .inl (M.2.1 2))), (g 4, .inl (cI, 754, .inl (M.2.1 3))), (g 5, .inl (cJ, 11, .inr (.inl M.2.2))), (g 6, .inl (cI, 100, .inl (M.2.1 4))), (g 7, .inl (cI, 100, .inl (M.2.1 5))), (g 8, .inl (cI, 60, .inl (M.2.1 6)))]
theorem ms_put0 (g : Nat → Nat) (cI cJ : ClassId) (M : MS) (v : Int32) : (ms_ws g cI cJ M).set 0 (g 0, .inr (0, (ms_fs g M).set 0 (.int v))) = ms_ws g cI cJ (ms_s M 0 v) := rfl
theorem ms_put3 (g : Nat → Nat) (cI cJ : ClassId) (M : MS) (v : Int32) : (ms_ws g cI cJ M).set 0 (g 0, .inr (0, (ms_fs g M).set 3 (.int v))) = ms_ws g cI cJ (ms_s M 3 v) := rfl
theorem ms_put5 (g : Nat → Nat) (cI cJ : ClassId) (M : MS) (v : Int32) : (ms_ws g cI cJ M).set 0 (g 0, .inr (0, (ms_fs g M).set 5 (.int v))) = ms_ws g cI cJ (ms_s M 5 v) := rfl
theorem ms_put11 (g : Nat → Nat) (cI cJ : ClassId) (M : MS) (v : Int32) : (ms_ws g cI cJ M).set 0 (g 0, .inr (0, (ms_fs g M).set 11 (.int v))) = ms_ws g cI cJ (ms_s M 11 v) := rfl
theorem ms_put12 (g : Nat → Nat) (cI cJ : ClassId) (M : MS) (v : Int32) : (ms_ws g cI cJ M).set 0 (g 0, .inr (0, (ms_fs g M).set 12 (.int v))) = ms_ws g cI cJ (ms_s M 12 v) := rfl
theorem ms_put13 (g : Nat → Nat) (cI cJ : ClassId) (M : MS) (v : Int32) : (ms_ws g cI cJ M).set 0 (g 0, .inr (0, (ms_fs g M).set 13 (.int v))) = ms_ws g cI cJ (ms_s M 13 v) := rfl
theorem ms_put14 (g : Nat → Nat) (cI cJ : ClassId) (M : MS) (v : Int32) : (ms_ws g cI cJ M).set 0 (g 0, .inr (0, (ms_fs g M).set 14 (.int v))) = ms_ws g cI cJ (ms_s M 14 v) := rfl
theorem ms_put15 (g : Nat → Nat) (cI cJ : ClassId) (M : MS) (v : Int32) : (ms_ws g cI cJ M).set 0 (g 0, .inr (0, (ms_fs g M).set 15 (.int v))) = ms_ws g cI cJ (ms_s M 15 v) := rfl
theorem ms_ast0 (g : Nat → Nat) (cI cJ : ClassId) (M : MS) (i v : Int32) : (ms_ws g cI cJ M).set 1 (g 1, .inl (cI, 754, .inl (upd (M.2.1 0) i.toNatClampNeg v))) = ms_ws g cI cJ (ms_a M 0 i v) := rfl
theorem ms_ast1 (g : Nat → Nat) (cI cJ : ClassId) (M : MS) (i v : Int32) : (ms_ws g cI cJ M).set 2 (g 2, .inl (cI, 4524, .inl (upd (M.2.1 1) i.toNatClampNeg v))) = ms_ws g cI cJ (ms_a M 1 i v) := rfl
theorem ms_ast2 (g : Nat → Nat) (cI cJ : ClassId) (M : MS) (i v : Int32) : (ms_ws g cI cJ M).set 3 (g 3, .inl (cI, 754, .inl (upd (M.2.1 2) i.toNatClampNeg v))) = ms_ws g cI cJ (ms_a M 2 i v) := rfl
theorem ms_ast3 (g : Nat → Nat) (cI cJ : ClassId) (M : MS) (i v : Int32) : (ms_ws g cI cJ M).set 4 (g 4, .inl (cI, 754, .inl (upd (M.2.1 3) i.toNatClampNeg v))) = ms_ws g cI cJ (ms_a M 3 i v) := rfl
theorem ms_ast4 (g : Nat → Nat) (cI cJ : ClassId) (M : MS) (i v : Int32) : (ms_ws g cI cJ M).set 6 (g 6, .inl (cI, 100, .inl (upd (M.2.1 4) i.toNatClampNeg v))) = ms_ws g cI cJ (ms_a M 4 i v) := rfl
theorem ms_ast5 (g : Nat → Nat) (cI cJ : ClassId) (M : MS) (i v : Int32) : (ms_ws g cI cJ M).set 7 (g 7, .inl (cI, 100, .inl (upd (M.2.1 5) i.toNatClampNeg v))) = ms_ws g cI cJ (ms_a M 5 i v) := rfl
theorem ms_ast6 (g : Nat → Nat) (cI cJ : ClassId) (M : MS) (i v : Int32) : (ms_ws g cI cJ M).set 8 (g 8, .inl (cI, 60, .inl (upd (M.2.1 6) i.toNatClampNeg v))) = ms_ws g cI cJ (ms_a M 6 i v) := rfl
theorem ms_lst (g : Nat → Nat) (cI cJ : ClassId) (M : MS) (i : Int32) (v : Int64) : (ms_ws g cI cJ M).set 5 (g 5, .inl (cJ, 11, .inr (.inl (vp_updL M.2.2 i.toNatClampNeg v)))) = ms_ws g cI cJ (ms_l M i v) := rfl
/-- what a twin's method may write: its nine cells, and what it makes -/
def tm_A (g : Nat → Nat) (sz : Nat) : Nat → Prop := fun q => (∃ k, k < 9 ∧ q = g k) ∨ sz ≤ q
theorem tm_up {g : Nat → Nat} {a b q : Nat} (h : a ≤ b) (hq : tm_A g b q) : tm_A g a q := hq.imp id (fun z => Nat.le_trans h z)
def tm_P (D : va_G) (g : Nat → Nat) (cI cJ : ClassId) (M : MS) (sz : Nat) (U : State) : Prop := U.heap.size = sz ∧ va_P D gcl (ms_ws g cI cJ M) U.heap ∧ va_K D gcl [(cI, .int), (cJ, .long)] U ∧ va_D (tm_A g sz) (ms_ws g cI cJ M)
def tm_B (D : va_G) (g : Nat → Nat) (cI cJ : ClassId) (sz : Nat) (M : MS) (t : State) : Prop := va_P D gcl (ms_ws g cI cJ M) t.heap ∧ va_K D gcl [(cI, .int), (cJ, .long)] t ∧ va_D (tm_A g sz) (ms_ws g cI cJ M)
def tm_I (D : va_G) (g : Nat → Nat) (cI cJ : ClassId) (s : State) (M : MS) (H : Heap) (locs : List Loc) : Prop := va_P D gcl (ms_ws g cI cJ M) H ∧ va_D (tm_A g s.heap.size) (ms_ws g cI cJ M) ∧ va_S (tm_A g s.heap.size) s.heap H locs
theorem tm_Da {A : Nat → Prop} {g : Nat → Nat} {cI cJ : ClassId} {M : MS} {sz : Nat} (h : va_D A (ms_ws g cI cJ M)) : va_D (tm_A g sz) (ms_ws g cI cJ M) := by
  refine ⟨h.1, fun k q hk => Or.inl ⟨k, ?_, ?_⟩⟩
  · exact (List.getElem?_eq_some_iff.mp hk).1
  · match k, hk with
    | 0, hk => cases hk; rfl
    | 1, hk => cases hk; rfl
    | 2, hk => cases hk; rfl
    | 3, hk => cases hk; rfl
    | 4, hk => cases hk; rfl
    | 5, hk => cases hk; rfl
    | 6, hk => cases hk; rfl
    | 7, hk => cases hk; rfl
    | 8, hk => cases hk; rfl
    | k + 9, hk => exact absurd (List.getElem?_eq_some_iff.mp hk).1 (by show ¬ k + 9 < 9; omega)
abbrev tm_Met (l : Launch) (y : MethodName) (bytes : ByteArray) (maxL : Nat) (ret : Option FieldType) (rm : Room) (As : List Value) (D : va_G) (g : Nat → Nat) (cI cJ : ClassId) (sz : Nat) (M : MS) (Qc : Array Value → State → Outcome → State → Prop) : Prop :=
  Met l y (ws_ y bytes maxL ret) rm (va_Pc (.ref (g 0) :: As) (tm_P D g cI cJ M sz)) Qc 0 0 (tm_A g sz)
section TM
variable {p : Program} {l : Launch} {e : Env} {R : Room} {s : State} {m : MethodId} {args : Array Value} {below : List Frame} {meth : Method} {c : Code} {cc : ByteArray} {nL : Nat} {ret : Option FieldType} {own : String} {cells slots : Nat} {Q : State → Prop} {pc : Nat} {lv lv' : List (Nat × Value)} {rest : List Value} {D : va_G} {g : Nat → Nat} {cI cJ : ClassId} {M : MS}
theorem tm_entry {y : MethodName} {bytes : ByteArray} {maxL : Nat} {rm : Room} {As : List Value} {sz : Nat} {Qc : Array Value → State → Outcome → State → Prop} (hy : plainName y.cls = true) (hl : (lg_sl (.ref (g 0) :: As)).length ≤ maxL) (body : ∀ (p : Program) (e : Env) (s : State) (m : MethodId) (args : Array Value) (below : List Frame) (meth : Method) (c : Code), s.heap.size = sz → gx_C p s m args meth c bytes maxL ret y.cls → va_K D gcl [(cI, .int), (cJ, .long)] s → gx_W p l e (headSpec (ws_ y bytes maxL ret) rm).room s m args below meth c maxL (tm_I D g cI cJ s M) 0 0 (MQ below Qc args s 0 0 (tm_A g sz)) 0 (lv_args 0 (.ref (g 0) :: As)) []) : tm_Met l y bytes maxL ret rm As D g cI cJ sz M Qc := by
  refine Met.ofW (cc := bytes) (maxL := maxL) (ret := ret) hy rfl ?_
  intro p e s m args below meth c s₁ B hml hv
  obtain ⟨ha, hsz, hP, hK, hD⟩ := hv
  subst hsz
  have hts := atoms_spec (ws := ws_ y bytes maxL ret) B.pre
  have hts : ∀ w ∈ lw_all, w.before args s = true := fun w h => hts w (List.mem_cons_of_mem _ h)
  have hk := body p e s m args below meth c rfl ⟨⟨B.exec, B.bytes, hml, findClass_of_methodNamed B.named, hts⟩, B.returns, B.notSynchronized⟩ hK
  have h0 := hk s.heap [] _ ⟨hP, hD, va_S.rf⟩ (lv_entry (.ref (g 0) :: As) hl)
  rw [← lg_entry_eq, ← ha] at h0
  exact h0
theorem tm_ref (hK : va_K D gcl [(cI, .int), (cJ, .long)] s) {H : Heap} {locs : List Loc} (hI : tm_I D g cI cJ s M H locs) : ∃ cell : Cell, H[g 0]? = some cell ∧ cell.vm.isStatics = false ∧ s.vm.findClass RX3 = some cell.cls := va_recv hK hI.1 (ci := 0) (q0 := 0) rfl rfl
theorem tm_pre {As : List Value} (hK : va_K D gcl [(cI, .int), (cJ, .long)] s) {H : Heap} {locs : List Loc} (hI : tm_I D g cI cJ s M H locs) : PreV s H RX3 (g 0) (va_Pc (.ref (g 0) :: As) (tm_P D g cI cJ M H.size)) As :=
  ⟨fun a U gg mk q => by obtain ⟨q0, q1, qP, qK, qD⟩ := q; exact ⟨q0, q1, qP, va_K.moved (u := U) (U := U.calling gg mk a) (Vm.Alike.refl U.vm) qK, qD⟩, tm_ref hK hI, fun U hU hW => ⟨rfl, by rw [hU], by rw [hU]; exact hI.1, va_K.moved hW.alike hK, tm_Da hI.2.1⟩⟩

theorem tm_calli {y : MethodName} {bytes : ByteArray} {maxL n index : Nat} {r0 : Option FieldType} {rm : Room} {As st : List Value} {Qf : Int32 → MS → Prop} (C : gx_C p s m args meth c cc nL ret own) (hK : va_K D gcl [(cI, .int), (cJ, .long)] s) (hM : ∀ sz, tm_Met l y bytes maxL r0 rm As D g cI cJ sz M (va_Qi Qf (tm_B D g cI cJ sz) (tm_A g sz))) (cw : CallW R s args own RX3 index y bytes maxL r0 (ws_ y bytes maxL r0) rm 0 0 n) (hn : As.length = n) (hst : st = As.reverse ++ .ref (g 0) :: rest) (hr : (rest.map fun v => v.category).sum ≤ 8) (hdg : decode cc pc = .ok (.invokevirtual index, 3)) (kk : ∀ r M', Qf r M' → gx_W p l e R s m args below meth c nL (tm_I D g cI cJ s M') 0 0 Q (pc + 3) lv (.int r :: rest)) : gx_W p l e R s m args below meth c nL (tm_I D g cI cJ s M) 0 0 Q pc lv st := by
  intro H locs ls hI hL
  subst hst
  have hle : s.heap.size ≤ H.size := hI.2.2.1
  refine va_calli (A1 := tm_A g H.size) (A0 := tm_A g s.heap.size) (va_runV C.1 (hM H.size) cw (tm_pre hK hI) rfl hn hL.1 rfl (lv_room hr) hdg ⟨Nat.zero_le _, Nat.zero_le _⟩) hI.2.2 (fun q _ h => tm_up hle h) (fun q h => tm_up hle h) (fun r u t H1 locs1 ht hvm hw hB hz hk hS1 => ?_)
  obtain ⟨hP1, hK1, hD1⟩ := hB
  rw [ht] at hP1
  exact kk r u hw H1 locs1 ls ⟨hP1, tm_Da hD1, hS1⟩ hL
theorem tm_calll {y : MethodName} {bytes : ByteArray} {maxL n index : Nat} {r0 : Option FieldType} {rm : Room} {As st : List Value} {Qf : Int64 → MS → Prop} (C : gx_C p s m args meth c cc nL ret own) (hK : va_K D gcl [(cI, .int), (cJ, .long)] s) (hM : ∀ sz, tm_Met l y bytes maxL r0 rm As D g cI cJ sz M (va_Ql Qf (tm_B D g cI cJ sz) (tm_A g sz))) (cw : CallW R s args own RX3 index y bytes maxL r0 (ws_ y bytes maxL r0) rm 0 0 n) (hn : As.length = n) (hst : st = As.reverse ++ .ref (g 0) :: rest) (hr : (rest.map fun v => v.category).sum ≤ 8) (hdg : decode cc pc = .ok (.invokevirtual index, 3)) (kk : ∀ r M', Qf r M' → gx_W p l e R s m args below meth c nL (tm_I D g cI cJ s M') 0 0 Q (pc + 3) lv (.long r :: rest)) : gx_W p l e R s m args below meth c nL (tm_I D g cI cJ s M) 0 0 Q pc lv st := by
  intro H locs ls hI hL
  subst hst
  have hle : s.heap.size ≤ H.size := hI.2.2.1
  refine va_calll (A1 := tm_A g H.size) (A0 := tm_A g s.heap.size) (va_runV C.1 (hM H.size) cw (tm_pre hK hI) rfl hn hL.1 rfl (lv_room hr) hdg ⟨Nat.zero_le _, Nat.zero_le _⟩) hI.2.2 (fun q _ h => tm_up hle h) (fun q h => tm_up hle h) (fun r u t H1 locs1 ht hvm hw hB hz hk hS1 => ?_)
  obtain ⟨hP1, hK1, hD1⟩ := hB
  rw [ht] at hP1
  exact kk r u hw H1 locs1 ls ⟨hP1, tm_Da hD1, hS1⟩ hL
theorem tm_calld {y : MethodName} {bytes : ByteArray} {maxL n index : Nat} {r0 : Option FieldType} {rm : Room} {As st : List Value} {Qf : UInt64 → MS → Prop} (C : gx_C p s m args meth c cc nL ret own) (hK : va_K D gcl [(cI, .int), (cJ, .long)] s) (hM : ∀ sz, tm_Met l y bytes maxL r0 rm As D g cI cJ sz M (va_Qd Qf (tm_B D g cI cJ sz) (tm_A g sz))) (cw : CallW R s args own RX3 index y bytes maxL r0 (ws_ y bytes maxL r0) rm 0 0 n) (hn : As.length = n) (hst : st = As.reverse ++ .ref (g 0) :: rest) (hr : (rest.map fun v => v.category).sum ≤ 8) (hdg : decode cc pc = .ok (.invokevirtual index, 3)) (kk : ∀ r M', Qf r M' → gx_W p l e R s m args below meth c nL (tm_I D g cI cJ s M') 0 0 Q (pc + 3) lv (.double r :: rest)) : gx_W p l e R s m args below meth c nL (tm_I D g cI cJ s M) 0 0 Q pc lv st := by
  intro H locs ls hI hL
  subst hst
  have hle : s.heap.size ≤ H.size := hI.2.2.1
  refine va_calld (A1 := tm_A g H.size) (A0 := tm_A g s.heap.size) (va_runV C.1 (hM H.size) cw (tm_pre hK hI) rfl hn hL.1 rfl (lv_room hr) hdg ⟨Nat.zero_le _, Nat.zero_le _⟩) hI.2.2 (fun q _ h => tm_up hle h) (fun q h => tm_up hle h) (fun r u t H1 locs1 ht hvm hw hB hz hk hS1 => ?_)
  obtain ⟨hP1, hK1, hD1⟩ := hB
  rw [ht] at hP1
  exact kk r u hw H1 locs1 ls ⟨hP1, tm_Da hD1, hS1⟩ hL
theorem tm_callv {y : MethodName} {bytes : ByteArray} {maxL n index : Nat} {r0 : Option FieldType} {rm : Room} {As st : List Value} {Qf : MS → Prop} (C : gx_C p s m args meth c cc nL ret own) (hK : va_K D gcl [(cI, .int), (cJ, .long)] s) (hM : ∀ sz, tm_Met l y bytes maxL r0 rm As D g cI cJ sz M (va_Qv Qf (tm_B D g cI cJ sz) (tm_A g sz))) (cw : CallW R s args own RX3 index y bytes maxL r0 (ws_ y bytes maxL r0) rm 0 0 n) (hn : As.length = n) (hst : st = As.reverse ++ .ref (g 0) :: rest) (hr : (rest.map fun v => v.category).sum ≤ 8) (hdg : decode cc pc = .ok (.invokevirtual index, 3)) (kk : ∀ M', Qf M' → gx_W p l e R s m args below meth c nL (tm_I D g cI cJ s M') 0 0 Q (pc + 3) lv rest) : gx_W p l e R s m args below meth c nL (tm_I D g cI cJ s M) 0 0 Q pc lv st := by
  intro H locs ls hI hL
  subst hst
  have hle : s.heap.size ≤ H.size := hI.2.2.1
  refine va_callv (A1 := tm_A g H.size) (A0 := tm_A g s.heap.size) (va_runV C.1 (hM H.size) cw (tm_pre hK hI) rfl hn hL.1 rfl (lv_room hr) hdg ⟨Nat.zero_le _, Nat.zero_le _⟩) hI.2.2 (fun q _ h => tm_up hle h) (fun q h => tm_up hle h) (fun u t H1 locs1 ht hvm hw hB hz hk hS1 => ?_)
  obtain ⟨hP1, hK1, hD1⟩ := hB
  rw [ht] at hP1
  exact kk u hw H1 locs1 ls ⟨hP1, tm_Da hD1, hS1⟩ hL
theorem tm_get (C : gx_C p s m args meth c cc nL ret RX3) (hK : va_K D gcl [(cI, .int), (cJ, .long)] s) (k : Nat) (hk : k < 16) {index : Nat} {v : Value} (hlink : Cond.fieldLink RX3 index RX3 (TX3 k).2.1 (TX3 k).2.2.1 ∈ lw_all) (hsame : (TX3 k).1 = RX3) (hv : (ms_fs g M)[k]? = some v) (hdg : decode cc pc = .ok (.getfield index, 3)) (kk : gx_W p l e R s m args below meth c nL (tm_I D g cI cJ s M) cells slots Q (pc + 3) lv (v :: rest)) : gx_W p l e R s m args below meth c nL (tm_I D g cI cJ s M) cells slots Q pc lv (.ref (g 0) :: rest) :=
  fun H locs ls hI hL => va_get C.x C.b C.t in_X3 C.o hK hI.1 0 rfl rfl k hk (C.t _ hlink) (by rw [hsame]; exact fun _ h => h) hv hdg (kk H locs ls hI hL)
theorem tm_put0 (C : gx_C p s m args meth c cc nL ret RX3) (hK : va_K D gcl [(cI, .int), (cJ, .long)] s) {index : Nat} {v : Int32} (hlink : Cond.fieldLink RX3 index RX3 (TX3 0).2.1 (TX3 0).2.2.1 ∈ lw_all) (hdg : decode cc pc = .ok (.putfield index, 3)) (kk : ∀ M', M' = ms_s M 0 v → gx_W p l e R s m args below meth c nL (tm_I D g cI cJ s M') cells slots Q (pc + 3) lv rest) : gx_W p l e R s m args below meth c nL (tm_I D g cI cJ s M) cells slots Q pc lv (.int v :: .ref (g 0) :: rest) := by
  intro H locs ls hI hL
  refine va_put C.x C.b C.t in_X3 tyX3 tyX3_ok nmX3 C.o hK hI.1 hI.2.1 hI.2.2 0 rfl rfl 0 (by decide) (C.t _ hlink) (fun _ h => h) rfl (ty := .int) rfl rfl rfl (show 0 < 16 by decide) hdg (fun H1 locs1 hP1 hD1 hS1 => ?_)
  rw [ms_put0] at hP1 hD1
  exact kk _ rfl H1 locs1 ls ⟨hP1, hD1, hS1⟩ hL
theorem tm_put3 (C : gx_C p s m args meth c cc nL ret RX3) (hK : va_K D gcl [(cI, .int), (cJ, .long)] s) {index : Nat} {v : Int32} (hlink : Cond.fieldLink RX3 index RX3 (TX3 3).2.1 (TX3 3).2.2.1 ∈ lw_all) (hdg : decode cc pc = .ok (.putfield index, 3)) (kk : ∀ M', M' = ms_s M 3 v → gx_W p l e R s m args below meth c nL (tm_I D g cI cJ s M') cells slots Q (pc + 3) lv rest) : gx_W p l e R s m args below meth c nL (tm_I D g cI cJ s M) cells slots Q pc lv (.int v :: .ref (g 0) :: rest) := by
  intro H locs ls hI hL
  refine va_put C.x C.b C.t in_X3 tyX3 tyX3_ok nmX3 C.o hK hI.1 hI.2.1 hI.2.2 0 rfl rfl 3 (by decide) (C.t _ hlink) (fun _ h => h) rfl (ty := .int) rfl rfl rfl (show 3 < 16 by decide) hdg (fun H1 locs1 hP1 hD1 hS1 => ?_)
  rw [ms_put3] at hP1 hD1
  exact kk _ rfl H1 locs1 ls ⟨hP1, hD1, hS1⟩ hL
theorem tm_put5 (C : gx_C p s m args meth c cc nL ret RX3) (hK : va_K D gcl [(cI, .int), (cJ, .long)] s) {index : Nat} {v : Int32} (hlink : Cond.fieldLink RX3 index RX3 (TX3 5).2.1 (TX3 5).2.2.1 ∈ lw_all) (hn : narrow .boolean (.int v) = .int v) (hf : fits .boolean (.int v) = true) (hdg : decode cc pc = .ok (.putfield index, 3)) (kk : ∀ M', M' = ms_s M 5 v → gx_W p l e R s m args below meth c nL (tm_I D g cI cJ s M') cells slots Q (pc + 3) lv rest) : gx_W p l e R s m args below meth c nL (tm_I D g cI cJ s M) cells slots Q pc lv (.int v :: .ref (g 0) :: rest) := by
  intro H locs ls hI hL
  refine va_put C.x C.b C.t in_X3 tyX3 tyX3_ok nmX3 C.o hK hI.1 hI.2.1 hI.2.2 0 rfl rfl 5 (by decide) (C.t _ hlink) (fun _ h => h) rfl (ty := .boolean) rfl hn hf (show 5 < 16 by decide) hdg (fun H1 locs1 hP1 hD1 hS1 => ?_)
  rw [ms_put5] at hP1 hD1
  exact kk _ rfl H1 locs1 ls ⟨hP1, hD1, hS1⟩ hL
theorem tm_put11 (C : gx_C p s m args meth c cc nL ret RX3) (hK : va_K D gcl [(cI, .int), (cJ, .long)] s) {index : Nat} {v : Int32} (hlink : Cond.fieldLink RX3 index RX3 (TX3 11).2.1 (TX3 11).2.2.1 ∈ lw_all) (hdg : decode cc pc = .ok (.putfield index, 3)) (kk : ∀ M', M' = ms_s M 11 v → gx_W p l e R s m args below meth c nL (tm_I D g cI cJ s M') cells slots Q (pc + 3) lv rest) : gx_W p l e R s m args below meth c nL (tm_I D g cI cJ s M) cells slots Q pc lv (.int v :: .ref (g 0) :: rest) := by
  intro H locs ls hI hL
  refine va_put C.x C.b C.t in_X3 tyX3 tyX3_ok nmX3 C.o hK hI.1 hI.2.1 hI.2.2 0 rfl rfl 11 (by decide) (C.t _ hlink) (fun _ h => h) rfl (ty := .int) rfl rfl rfl (show 11 < 16 by decide) hdg (fun H1 locs1 hP1 hD1 hS1 => ?_)
  rw [ms_put11] at hP1 hD1
  exact kk _ rfl H1 locs1 ls ⟨hP1, hD1, hS1⟩ hL
theorem tm_put12 (C : gx_C p s m args meth c cc nL ret RX3) (hK : va_K D gcl [(cI, .int), (cJ, .long)] s) {index : Nat} {v : Int32} (hlink : Cond.fieldLink RX3 index RX3 (TX3 12).2.1 (TX3 12).2.2.1 ∈ lw_all) (hdg : decode cc pc = .ok (.putfield index, 3)) (kk : ∀ M', M' = ms_s M 12 v → gx_W p l e R s m args below meth c nL (tm_I D g cI cJ s M') cells slots Q (pc + 3) lv rest) : gx_W p l e R s m args below meth c nL (tm_I D g cI cJ s M) cells slots Q pc lv (.int v :: .ref (g 0) :: rest) := by
  intro H locs ls hI hL
  refine va_put C.x C.b C.t in_X3 tyX3 tyX3_ok nmX3 C.o hK hI.1 hI.2.1 hI.2.2 0 rfl rfl 12 (by decide) (C.t _ hlink) (fun _ h => h) rfl (ty := .int) rfl rfl rfl (show 12 < 16 by decide) hdg (fun H1 locs1 hP1 hD1 hS1 => ?_)
  rw [ms_put12] at hP1 hD1
  exact kk _ rfl H1 locs1 ls ⟨hP1, hD1, hS1⟩ hL
theorem tm_put13 (C : gx_C p s m args meth c cc nL ret RX3) (hK : va_K D gcl [(cI, .int), (cJ, .long)] s) {index : Nat} {v : Int32} (hlink : Cond.fieldLink RX3 index RX3 (TX3 13).2.1 (TX3 13).2.2.1 ∈ lw_all) (hdg : decode cc pc = .ok (.putfield index, 3)) (kk : ∀ M', M' = ms_s M 13 v → gx_W p l e R s m args below meth c nL (tm_I D g cI cJ s M') cells slots Q (pc + 3) lv rest) : gx_W p l e R s m args below meth c nL (tm_I D g cI cJ s M) cells slots Q pc lv (.int v :: .ref (g 0) :: rest) := by
  intro H locs ls hI hL
  refine va_put C.x C.b C.t in_X3 tyX3 tyX3_ok nmX3 C.o hK hI.1 hI.2.1 hI.2.2 0 rfl rfl 13 (by decide) (C.t _ hlink) (fun _ h => h) rfl (ty := .int) rfl rfl rfl (show 13 < 16 by decide) hdg (fun H1 locs1 hP1 hD1 hS1 => ?_)
  rw [ms_put13] at hP1 hD1
  exact kk _ rfl H1 locs1 ls ⟨hP1, hD1, hS1⟩ hL
theorem tm_put14 (C : gx_C p s m args meth c cc nL ret RX3) (hK : va_K D gcl [(cI, .int), (cJ, .long)] s) {index : Nat} {v : Int32} (hlink : Cond.fieldLink RX3 index RX3 (TX3 14).2.1 (TX3 14).2.2.1 ∈ lw_all) (hdg : decode cc pc = .ok (.putfield index, 3)) (kk : ∀ M', M' = ms_s M 14 v → gx_W p l e R s m args below meth c nL (tm_I D g cI cJ s M') cells slots Q (pc + 3) lv rest) : gx_W p l e R s m args below meth c nL (tm_I D g cI cJ s M) cells slots Q pc lv (.int v :: .ref (g 0) :: rest) := by
  intro H locs ls hI hL
  refine va_put C.x C.b C.t in_X3 tyX3 tyX3_ok nmX3 C.o hK hI.1 hI.2.1 hI.2.2 0 rfl rfl 14 (by decide) (C.t _ hlink) (fun _ h => h) rfl (ty := .int) rfl rfl rfl (show 14 < 16 by decide) hdg (fun H1 locs1 hP1 hD1 hS1 => ?_)
  rw [ms_put14] at hP1 hD1
  exact kk _ rfl H1 locs1 ls ⟨hP1, hD1, hS1⟩ hL
theorem tm_put15 (C : gx_C p s m args meth c cc nL ret RX3) (hK : va_K D gcl [(cI, .int), (cJ, .long)] s) {index : Nat} {v : Int32} (hlink : Cond.fieldLink RX3 index RX3 (TX3 15).2.1 (TX3 15).2.2.1 ∈ lw_all) (hdg : decode cc pc = .ok (.putfield index, 3)) (kk : ∀ M', M' = ms_s M 15 v → gx_W p l e R s m args below meth c nL (tm_I D g cI cJ s M') cells slots Q (pc + 3) lv rest) : gx_W p l e R s m args below meth c nL (tm_I D g cI cJ s M) cells slots Q pc lv (.int v :: .ref (g 0) :: rest) := by
  intro H locs ls hI hL
  refine va_put C.x C.b C.t in_X3 tyX3 tyX3_ok nmX3 C.o hK hI.1 hI.2.1 hI.2.2 0 rfl rfl 15 (by decide) (C.t _ hlink) (fun _ h => h) rfl (ty := .int) rfl rfl rfl (show 15 < 16 by decide) hdg (fun H1 locs1 hP1 hD1 hS1 => ?_)
  rw [ms_put15] at hP1 hD1
  exact kk _ rfl H1 locs1 ls ⟨hP1, hD1, hS1⟩ hL
theorem tm_ald0 (C : gx_C p s m args meth c cc nL ret own) (hK : va_K D gcl [(cI, .int), (cJ, .long)] s) {i : Int32} (hin : vp_in i 754) (hdg : decode cc pc = .ok (.iaload, 1)) (kk : gx_W p l e R s m args below meth c nL (tm_I D g cI cJ s M) cells slots Q (pc + 1) lv (.int (ms_r M 0 i) :: rest)) : gx_W p l e R s m args below meth c nL (tm_I D g cI cJ s M) cells slots Q pc lv (.int i :: .ref (g 1) :: rest) :=
  fun H locs ls hI hL => va_iald C.x C.b hK hI.1 1 0 rfl rfl hin hdg (kk H locs ls hI hL)
theorem tm_ast0 (C : gx_C p s m args meth c cc nL ret own) (hK : va_K D gcl [(cI, .int), (cJ, .long)] s) {i v : Int32} (hin : vp_in i 754) (hdg : decode cc pc = .ok (.iastore, 1)) (kk : ∀ M', M' = ms_a M 0 i v → gx_W p l e R s m args below meth c nL (tm_I D g cI cJ s M') cells slots Q (pc + 1) lv rest) : gx_W p l e R s m args below meth c nL (tm_I D g cI cJ s M) cells slots Q pc lv (.int v :: .int i :: .ref (g 1) :: rest) := by
  intro H locs ls hI hL
  refine va_iast C.x C.b hK hI.1 hI.2.1 hI.2.2 1 0 rfl rfl hin hdg (fun H1 locs1 hP1 hD1 hS1 => ?_)
  rw [ms_ast0] at hP1 hD1
  exact kk _ rfl H1 locs1 ls ⟨hP1, hD1, hS1⟩ hL
theorem tm_ald1 (C : gx_C p s m args meth c cc nL ret own) (hK : va_K D gcl [(cI, .int), (cJ, .long)] s) {i : Int32} (hin : vp_in i 4524) (hdg : decode cc pc = .ok (.iaload, 1)) (kk : gx_W p l e R s m args below meth c nL (tm_I D g cI cJ s M) cells slots Q (pc + 1) lv (.int (ms_r M 1 i) :: rest)) : gx_W p l e R s m args below meth c nL (tm_I D g cI cJ s M) cells slots Q pc lv (.int i :: .ref (g 2) :: rest) :=
  fun H locs ls hI hL => va_iald C.x C.b hK hI.1 2 0 rfl rfl hin hdg (kk H locs ls hI hL)
theorem tm_ast1 (C : gx_C p s m args meth c cc nL ret own) (hK : va_K D gcl [(cI, .int), (cJ, .long)] s) {i v : Int32} (hin : vp_in i 4524) (hdg : decode cc pc = .ok (.iastore, 1)) (kk : ∀ M', M' = ms_a M 1 i v → gx_W p l e R s m args below meth c nL (tm_I D g cI cJ s M') cells slots Q (pc + 1) lv rest) : gx_W p l e R s m args below meth c nL (tm_I D g cI cJ s M) cells slots Q pc lv (.int v :: .int i :: .ref (g 2) :: rest) := by
  intro H locs ls hI hL
  refine va_iast C.x C.b hK hI.1 hI.2.1 hI.2.2 2 0 rfl rfl hin hdg (fun H1 locs1 hP1 hD1 hS1 => ?_)
  rw [ms_ast1] at hP1 hD1
  exact kk _ rfl H1 locs1 ls ⟨hP1, hD1, hS1⟩ hL
theorem tm_ald2 (C : gx_C p s m args meth c cc nL ret own) (hK : va_K D gcl [(cI, .int), (cJ, .long)] s) {i : Int32} (hin : vp_in i 754) (hdg : decode cc pc = .ok (.iaload, 1)) (kk : gx_W p l e R s m args below meth c nL (tm_I D g cI cJ s M) cells slots Q (pc + 1) lv (.int (ms_r M 2 i) :: rest)) : gx_W p l e R s m args below meth c nL (tm_I D g cI cJ s M) cells slots Q pc lv (.int i :: .ref (g 3) :: rest) :=
  fun H locs ls hI hL => va_iald C.x C.b hK hI.1 3 0 rfl rfl hin hdg (kk H locs ls hI hL)
theorem tm_ast2 (C : gx_C p s m args meth c cc nL ret own) (hK : va_K D gcl [(cI, .int), (cJ, .long)] s) {i v : Int32} (hin : vp_in i 754) (hdg : decode cc pc = .ok (.iastore, 1)) (kk : ∀ M', M' = ms_a M 2 i v → gx_W p l e R s m args below meth c nL (tm_I D g cI cJ s M') cells slots Q (pc + 1) lv rest) : gx_W p l e R s m args below meth c nL (tm_I D g cI cJ s M) cells slots Q pc lv (.int v :: .int i :: .ref (g 3) :: rest) := by
  intro H locs ls hI hL
  refine va_iast C.x C.b hK hI.1 hI.2.1 hI.2.2 3 0 rfl rfl hin hdg (fun H1 locs1 hP1 hD1 hS1 => ?_)
  rw [ms_ast2] at hP1 hD1
  exact kk _ rfl H1 locs1 ls ⟨hP1, hD1, hS1⟩ hL
theorem tm_ald3 (C : gx_C p s m args meth c cc nL ret own) (hK : va_K D gcl [(cI, .int), (cJ, .long)] s) {i : Int32} (hin : vp_in i 754) (hdg : decode cc pc = .ok (.iaload, 1)) (kk : gx_W p l e R s m args below meth c nL (tm_I D g cI cJ s M) cells slots Q (pc + 1) lv (.int (ms_r M 3 i) :: rest)) : gx_W p l e R s m args below meth c nL (tm_I D g cI cJ s M) cells slots Q pc lv (.int i :: .ref (g 4) :: rest) :=
  fun H locs ls hI hL => va_iald C.x C.b hK hI.1 4 0 rfl rfl hin hdg (kk H locs ls hI hL)
theorem tm_ast3 (C : gx_C p s m args meth c cc nL ret own) (hK : va_K D gcl [(cI, .int), (cJ, .long)] s) {i v : Int32} (hin : vp_in i 754) (hdg : decode cc pc = .ok (.iastore, 1)) (kk : ∀ M', M' = ms_a M 3 i v → gx_W p l e R s m args below meth c nL (tm_I D g cI cJ s M') cells slots Q (pc + 1) lv rest) : gx_W p l e R s m args below meth c nL (tm_I D g cI cJ s M) cells slots Q pc lv (.int v :: .int i :: .ref (g 4) :: rest) := by
  intro H locs ls hI hL
  refine va_iast C.x C.b hK hI.1 hI.2.1 hI.2.2 4 0 rfl rfl hin hdg (fun H1 locs1 hP1 hD1 hS1 => ?_)
  rw [ms_ast3] at hP1 hD1
  exact kk _ rfl H1 locs1 ls ⟨hP1, hD1, hS1⟩ hL
theorem tm_ald4 (C : gx_C p s m args meth c cc nL ret own) (hK : va_K D gcl [(cI, .int), (cJ, .long)] s) {i : Int32} (hin : vp_in i 100) (hdg : decode cc pc = .ok (.iaload, 1)) (kk : gx_W p l e R s m args below meth c nL (tm_I D g cI cJ s M) cells slots Q (pc + 1) lv (.int (ms_r M 4 i) :: rest)) : gx_W p l e R s m args below meth c nL (tm_I D g cI cJ s M) cells slots Q pc lv (.int i :: .ref (g 6) :: rest) :=
  fun H locs ls hI hL => va_iald C.x C.b hK hI.1 6 0 rfl rfl hin hdg (kk H locs ls hI hL)
theorem tm_ast4 (C : gx_C p s m args meth c cc nL ret own) (hK : va_K D gcl [(cI, .int), (cJ, .long)] s) {i v : Int32} (hin : vp_in i 100) (hdg : decode cc pc = .ok (.iastore, 1)) (kk : ∀ M', M' = ms_a M 4 i v → gx_W p l e R s m args below meth c nL (tm_I D g cI cJ s M') cells slots Q (pc + 1) lv rest) : gx_W p l e R s m args below meth c nL (tm_I D g cI cJ s M) cells slots Q pc lv (.int v :: .int i :: .ref (g 6) :: rest) := by
  intro H locs ls hI hL
  refine va_iast C.x C.b hK hI.1 hI.2.1 hI.2.2 6 0 rfl rfl hin hdg (fun H1 locs1 hP1 hD1 hS1 => ?_)
  rw [ms_ast4] at hP1 hD1
  exact kk _ rfl H1 locs1 ls ⟨hP1, hD1, hS1⟩ hL
theorem tm_ald5 (C : gx_C p s m args meth c cc nL ret own) (hK : va_K D gcl [(cI, .int), (cJ, .long)] s) {i : Int32} (hin : vp_in i 100) (hdg : decode cc pc = .ok (.iaload, 1)) (kk : gx_W p l e R s m args below meth c nL (tm_I D g cI cJ s M) cells slots Q (pc + 1) lv (.int (ms_r M 5 i) :: rest)) : gx_W p l e R s m args below meth c nL (tm_I D g cI cJ s M) cells slots Q pc lv (.int i :: .ref (g 7) :: rest) :=
  fun H locs ls hI hL => va_iald C.x C.b hK hI.1 7 0 rfl rfl hin hdg (kk H locs ls hI hL)
theorem tm_ast5 (C : gx_C p s m args meth c cc nL ret own) (hK : va_K D gcl [(cI, .int), (cJ, .long)] s) {i v : Int32} (hin : vp_in i 100) (hdg : decode cc pc = .ok (.iastore, 1)) (kk : ∀ M', M' = ms_a M 5 i v → gx_W p l e R s m args below meth c nL (tm_I D g cI cJ s M') cells slots Q (pc + 1) lv rest) : gx_W p l e R s m args below meth c nL (tm_I D g cI cJ s M) cells slots Q pc lv (.int v :: .int i :: .ref (g 7) :: rest) := by
  intro H locs ls hI hL
  refine va_iast C.x C.b hK hI.1 hI.2.1 hI.2.2 7 0 rfl rfl hin hdg (fun H1 locs1 hP1 hD1 hS1 => ?_)
  rw [ms_ast5] at hP1 hD1
  exact kk _ rfl H1 locs1 ls ⟨hP1, hD1, hS1⟩ hL
theorem tm_ald6 (C : gx_C p s m args meth c cc nL ret own) (hK : va_K D gcl [(cI, .int), (cJ, .long)] s) {i : Int32} (hin : vp_in i 60) (hdg : decode cc pc = .ok (.iaload, 1)) (kk : gx_W p l e R s m args below meth c nL (tm_I D g cI cJ s M) cells slots Q (pc + 1) lv (.int (ms_r M 6 i) :: rest)) : gx_W p l e R s m args below meth c nL (tm_I D g cI cJ s M) cells slots Q pc lv (.int i :: .ref (g 8) :: rest) :=
  fun H locs ls hI hL => va_iald C.x C.b hK hI.1 8 0 rfl rfl hin hdg (kk H locs ls hI hL)
theorem tm_ast6 (C : gx_C p s m args meth c cc nL ret own) (hK : va_K D gcl [(cI, .int), (cJ, .long)] s) {i v : Int32} (hin : vp_in i 60) (hdg : decode cc pc = .ok (.iastore, 1)) (kk : ∀ M', M' = ms_a M 6 i v → gx_W p l e R s m args below meth c nL (tm_I D g cI cJ s M') cells slots Q (pc + 1) lv rest) : gx_W p l e R s m args below meth c nL (tm_I D g cI cJ s M) cells slots Q pc lv (.int v :: .int i :: .ref (g 8) :: rest) := by
  intro H locs ls hI hL
  refine va_iast C.x C.b hK hI.1 hI.2.1 hI.2.2 8 0 rfl rfl hin hdg (fun H1 locs1 hP1 hD1 hS1 => ?_)
  rw [ms_ast6] at hP1 hD1
  exact kk _ rfl H1 locs1 ls ⟨hP1, hD1, hS1⟩ hL
theorem tm_lld (C : gx_C p s m args meth c cc nL ret own) (hK : va_K D gcl [(cI, .int), (cJ, .long)] s) {i : Int32} (hin : vp_in i 11) (hdg : decode cc pc = .ok (.laload, 1)) (kk : gx_W p l e R s m args below meth c nL (tm_I D g cI cJ s M) cells slots Q (pc + 1) lv (.long (ms_q M i) :: rest)) : gx_W p l e R s m args below meth c nL (tm_I D g cI cJ s M) cells slots Q pc lv (.int i :: .ref (g 5) :: rest) :=
  fun H locs ls hI hL => va_lald C.x C.b hK hI.1 5 1 rfl rfl hin hdg (kk H locs ls hI hL)
theorem tm_lst (C : gx_C p s m args meth c cc nL ret own) (hK : va_K D gcl [(cI, .int), (cJ, .long)] s) {i : Int32} {v : Int64} (hin : vp_in i 11) (hdg : decode cc pc = .ok (.lastore, 1)) (kk : ∀ M', M' = ms_l M i v → gx_W p l e R s m args below meth c nL (tm_I D g cI cJ s M') cells slots Q (pc + 1) lv rest) : gx_W p l e R s m args below meth c nL (tm_I D g cI cJ s M) cells slots Q pc lv (.long v :: .int i :: .ref (g 5) :: rest) := by
  intro H locs ls hI hL
  refine va_last C.x C.b hK hI.1 hI.2.1 hI.2.2 5 1 rfl rfl hin hdg (fun H1 locs1 hP1 hD1 hS1 => ?_)
  rw [ms_lst] at hP1 hD1
  exact kk _ rfl H1 locs1 ls ⟨hP1, hD1, hS1⟩ hL
theorem tm_iret {Qf : Int32 → MS → Prop} {v : Int32} (C : gx_C p s m args meth c cc nL (some .int) own) (hK : va_K D gcl [(cI, .int), (cJ, .long)] s) (hq : Qf v M) (hdg : decode cc pc = .ok (.ireturn, 1)) : gx_W p l e R s m args below meth c nL (tm_I D g cI cJ s M) 0 0 (MQ below (va_Qi Qf (tm_B D g cI cJ s.heap.size) (tm_A g s.heap.size)) args s 0 0 (tm_A g s.heap.size)) pc lv [.int v] :=
  fun H locs ls hI hL => W.iret C.x C.b C.r (fun t ht hW => ⟨⟨v, M, rfl, hq, by rw [ht]; exact hI.1, va_K.moved hW.alike hK, hI.2.1⟩, hI.2.2.F ht⟩) hI.2.2.2.2 hdg C.k
theorem tm_zret {Qf : Int32 → MS → Prop} {v : Int32} {ty : FieldType} (C : gx_C p s m args meth c cc nL (some ty) own) (hK : va_K D gcl [(cI, .int), (cJ, .long)] s) (hn : narrow ty (.int v) = .int v) (hq : Qf v M) (hdg : decode cc pc = .ok (.ireturn, 1)) : gx_W p l e R s m args below meth c nL (tm_I D g cI cJ s M) 0 0 (MQ below (va_Qi Qf (tm_B D g cI cJ s.heap.size) (tm_A g s.heap.size)) args s 0 0 (tm_A g s.heap.size)) pc lv [.int v] :=
  fun H locs ls hI hL => W.zret C.x C.b C.r hn (fun t ht hW => ⟨⟨v, M, rfl, hq, by rw [ht]; exact hI.1, va_K.moved hW.alike hK, hI.2.1⟩, hI.2.2.F ht⟩) hI.2.2.2.2 hdg C.k
theorem tm_lret {Qf : Int64 → MS → Prop} {v : Int64} (C : gx_C p s m args meth c cc nL (some .long) own) (hK : va_K D gcl [(cI, .int), (cJ, .long)] s) (hq : Qf v M) (hdg : decode cc pc = .ok (.lreturn, 1)) : gx_W p l e R s m args below meth c nL (tm_I D g cI cJ s M) 0 0 (MQ below (va_Ql Qf (tm_B D g cI cJ s.heap.size) (tm_A g s.heap.size)) args s 0 0 (tm_A g s.heap.size)) pc lv [.long v] :=
  fun H locs ls hI hL => W.lret C.x C.b C.r (fun t ht hW => ⟨⟨v, M, rfl, hq, by rw [ht]; exact hI.1, va_K.moved hW.alike hK, hI.2.1⟩, hI.2.2.F ht⟩) hI.2.2.2.2 hdg C.k
theorem tm_dret {Qf : UInt64 → MS → Prop} {v : UInt64} (C : gx_C p s m args meth c cc nL (some .double) own) (hK : va_K D gcl [(cI, .int), (cJ, .long)] s) (hq : Qf v M) (hdg : decode cc pc = .ok (.dreturn, 1)) : gx_W p l e R s m args below meth c nL (tm_I D g cI cJ s M) 0 0 (MQ below (va_Qd Qf (tm_B D g cI cJ s.heap.size) (tm_A g s.heap.size)) args s 0 0 (tm_A g s.heap.size)) pc lv [.double v] :=
  fun H locs ls hI hL => have hk := C.k; W.dret C.x C.b C.r (fun t ht hW => ⟨⟨v, M, rfl, hq, by rw [ht]; exact hI.1, va_K.moved hW.alike hK, hI.2.1⟩, hI.2.2.F ht⟩) hI.2.2.2.2 hdg hk
theorem tm_vret {Qf : MS → Prop} (C : gx_C p s m args meth c cc nL none own) (hK : va_K D gcl [(cI, .int), (cJ, .long)] s) (hq : Qf M) (hdg : decode cc pc = .ok (.return_, 1)) : gx_W p l e R s m args below meth c nL (tm_I D g cI cJ s M) 0 0 (MQ below (va_Qv Qf (tm_B D g cI cJ s.heap.size) (tm_A g s.heap.size)) args s 0 0 (tm_A g s.heap.size)) pc lv [] :=
  fun H locs ls hI hL => W.vret C.x C.b C.r (fun t ht hW => ⟨⟨M, rfl, hq, by rw [ht]; exact hI.1, va_K.moved hW.alike hK, hI.2.1⟩, hI.2.2.F ht⟩) hI.2.2.2.2 hdg C.k
end TM
