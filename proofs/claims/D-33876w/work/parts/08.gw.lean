/-! Rows over any world I, given what the world says of the cell in question -/
section GW
variable {p : Program} {l : Launch} {e : Env} {R : Room} {s : State} {m : MethodId} {args : Array Value} {below : List Frame} {meth : Method} {c : Code} {cc : ByteArray} {nL : Nat} {ret : Option FieldType} {own : String} {I I' : Heap → List Loc → Prop} {cells slots : Nat} {Q : State → Prop} {pc : Nat} {lv lv' : List (Nat × Value)} {rest : List Value} {D : va_G} {ca : Nat → ClassId} {a : Nat}
/-- the world I knows the cell a to be e -/
def gH (D : va_G) (I : Heap → List Loc → Prop) (a : Nat) (x : va_E) : Prop := ∀ H locs, I H locs → va_at D gcl (a, x) H
/-- the world I becomes I' when its cell a becomes x1 -/
def gU (D : va_G) (I : Heap → List Loc → Prop) (a : Nat) (x0 x1 : va_E) (I' : Heap → List Loc → Prop) : Prop := ∀ H locs, I H locs → ∃ (ws : va_W) (A : Nat → Prop) (H0 : Heap), va_P D gcl ws H ∧ va_D A ws ∧ va_S A H0 H locs ∧ (a, x0) ∈ ws ∧ ∀ H1 locs1, va_P D gcl (wset ws a x1) H1 → va_D A (wset ws a x1) → va_S A H0 H1 locs1 → I' H1 locs1
/-- the world I becomes I' q when a cell q is made -/
def gN (D : va_G) (I : Heap → List Loc → Prop) (x : va_E) (I' : Nat → Heap → List Loc → Prop) : Prop := ∀ H locs, I H locs → ∃ (ws : va_W) (A : Nat → Prop) (H0 : Heap), va_P D gcl ws H ∧ va_D A ws ∧ va_S A H0 H locs ∧ (∀ q, H0.size ≤ q → A q) ∧ ∀ q H1, va_P D gcl (ws ++ [(q, x)]) H1 → va_D A (ws ++ [(q, x)]) → va_S A H0 H1 locs → I' q H1 locs
theorem gw_eqw {J : Heap → List Loc → Prop} (h : ∀ H locs, I H locs → J H locs) (kk : gx_W p l e R s m args below meth c nL J cells slots Q pc lv rest) : gx_W p l e R s m args below meth c nL I cells slots Q pc lv rest := fun H locs ls hI hL => kk H locs ls (h H locs hI) hL
theorem gw_get (C : gx_C p s m args meth c cc nL ret own) (hK : gK D ca s) {Cn ref : String} {T : u_T} {N ci index : Nat} {fs : List Value} (hin : ∀ w ∈ u_ws Cn T N, w ∈ lw_all) (hc : gcl[ci]? = some (Cn, T, N)) (hm : gH D I a (.inr (ci, fs))) (k : Nat) (hk : k < N) (hlink : Cond.fieldLink own index ref (T k).2.1 (T k).2.2.1 ∈ lw_all) (hsame : (T k).1 = ref) {v : Value} (hv : fs[k]? = some v) (hdg : decode cc pc = .ok (.getfield index, 3)) (kk : gx_W p l e R s m args below meth c nL I cells slots Q (pc + 3) lv (v :: rest)) : gx_W p l e R s m args below meth c nL I cells slots Q pc lv (.ref a :: rest) :=
  fun H locs ls hI hL => va_get C.x C.b C.t hin C.o hK.1 (va_P.one (hm H locs hI)) 0 rfl hc k hk (C.t _ hlink) (by rw [hsame]; exact fun _ h => h) hv hdg (kk H locs ls hI hL)
theorem gw_getN (C : gx_C p s m args meth c cc nL ret own) (hK : gK D ca s) {Cn ref host : String} {T : u_T} {N ci index : Nat} {fs : List Value} (hin : ∀ w ∈ u_ws Cn T N, w ∈ lw_all) (hc : gcl[ci]? = some (Cn, T, N)) (hm : gH D I a (.inr (ci, fs))) (k : Nat) (hk : k < N) (hlink : Cond.fieldLinkNest own index ref (T k).2.1 (T k).2.2.1 host ∈ lw_tbl) (hsame : (T k).1 = ref) {v : Value} (hv : fs[k]? = some v) (hdg : decode cc pc = .ok (.getfield index, 3)) (kk : gx_W p l e R s m args below meth c nL I cells slots Q (pc + 3) lv (v :: rest)) : gx_W p l e R s m args below meth c nL I cells slots Q pc lv (.ref a :: rest) :=
  fun H locs ls hI hL => va_getN C.x C.b C.t hin C.o hK.1 (va_P.one (hm H locs hI)) 0 rfl hc k hk ((hK.2.1 _ _ _ _ _ _ hlink).use rfl) (by rw [hsame]; exact fun _ h => h) hv hdg (kk H locs ls hI hL)
theorem gw_put (C : gx_C p s m args meth c cc nL ret own) (hK : gK D ca s) {Cn ref : String} {T : u_T} {N ci index : Nat} {fs : List Value} (hin : ∀ w ∈ u_ws Cn T N, w ∈ lw_all) (ty0 : Nat → FieldType) (hty : ∀ k, k < N → parseFieldDescriptor (T k).2.2.1 = some (ty0 k)) (hnm : ∀ a, a < N → ∀ b, b < N → a ≠ b → (T a).2.1 ≠ (T b).2.1) (hc : gcl[ci]? = some (Cn, T, N)) (k : Nat) (hk : k < N) (hlink : Cond.fieldLink own index ref (T k).2.1 (T k).2.2.1 ∈ lw_all) (hsame : (T k).1 = ref) (hfin : (T k).2.2.2 = false) {ty : FieldType} {v : Value} (hd : parseFieldDescriptor (T k).2.2.1 = some ty) (hn : narrow ty v = v) (hfit : fits ty v = true) (hl : k < fs.length) (hU : gU D I a (.inr (ci, fs)) (.inr (ci, fs.set k v)) I') (hdg : decode cc pc = .ok (.putfield index, 3)) (kk : gx_W p l e R s m args below meth c nL I' cells slots Q (pc + 3) lv rest) : gx_W p l e R s m args below meth c nL I cells slots Q pc lv (v :: .ref a :: rest) := by
  intro H locs ls hI hL
  obtain ⟨ws, A, H0, hP, hD, hS, hm, hk1⟩ := hU H locs hI
  obtain ⟨q0, hq0⟩ := List.getElem?_of_mem hm
  refine va_put C.x C.b C.t hin ty0 hty hnm C.o hK.1 hP hD hS q0 hq0 hc k hk (C.t _ hlink) (by rw [hsame]; exact fun _ h => h) hfin hd hn hfit hl hdg (fun H1 locs1 hP1 hD1 hS1 => ?_)
  rw [wset_of hD hq0] at hP1 hD1
  exact kk H1 locs1 ls (hk1 H1 locs1 hP1 hD1 hS1) hL
theorem gw_putN (C : gx_C p s m args meth c cc nL ret own) (hK : gK D ca s) {Cn ref host : String} {T : u_T} {N ci index : Nat} {fs : List Value} (hin : ∀ w ∈ u_ws Cn T N, w ∈ lw_all) (ty0 : Nat → FieldType) (hty : ∀ k, k < N → parseFieldDescriptor (T k).2.2.1 = some (ty0 k)) (hnm : ∀ a, a < N → ∀ b, b < N → a ≠ b → (T a).2.1 ≠ (T b).2.1) (hc : gcl[ci]? = some (Cn, T, N)) (k : Nat) (hk : k < N) (hlink : Cond.fieldLinkNest own index ref (T k).2.1 (T k).2.2.1 host ∈ lw_tbl) (hsame : (T k).1 = ref) (hfin : (T k).2.2.2 = false) {ty : FieldType} {v : Value} (hd : parseFieldDescriptor (T k).2.2.1 = some ty) (hn : narrow ty v = v) (hfit : fits ty v = true) (hl : k < fs.length) (hU : gU D I a (.inr (ci, fs)) (.inr (ci, fs.set k v)) I') (hdg : decode cc pc = .ok (.putfield index, 3)) (kk : gx_W p l e R s m args below meth c nL I' cells slots Q (pc + 3) lv rest) : gx_W p l e R s m args below meth c nL I cells slots Q pc lv (v :: .ref a :: rest) := by
  intro H locs ls hI hL
  obtain ⟨ws, A, H0, hP, hD, hS, hm, hk1⟩ := hU H locs hI
  obtain ⟨q0, hq0⟩ := List.getElem?_of_mem hm
  refine va_putN C.x C.b C.t hin ty0 hty hnm C.o hK.1 hP hD hS q0 hq0 hc k hk ((hK.2.1 _ _ _ _ _ _ hlink).use rfl) (by rw [hsame]; exact fun _ h => h) hfin hd hn hfit hl hdg (fun H1 locs1 hP1 hD1 hS1 => ?_)
  rw [wset_of hD hq0] at hP1 hD1
  exact kk H1 locs1 ls (hk1 H1 locs1 hP1 hD1 hS1) hL
theorem gw_putF (C : gx_C p s m args meth c cc nL ret own) (hK : gK D ca s) (hini : meth.name = "<init>") {Cn ref : String} {T : u_T} {N ci index : Nat} {fs : List Value} (hin : ∀ w ∈ u_ws Cn T N, w ∈ lw_all) (ty0 : Nat → FieldType) (hty : ∀ k, k < N → parseFieldDescriptor (T k).2.2.1 = some (ty0 k)) (hnm : ∀ a, a < N → ∀ b, b < N → a ≠ b → (T a).2.1 ≠ (T b).2.1) (hc : gcl[ci]? = some (Cn, T, N)) (k : Nat) (hk : k < N) (hlink : Cond.fieldLink own index ref (T k).2.1 (T k).2.2.1 ∈ lw_all) (hsame : (T k).1 = ref) (hfin : (T k).2.2.2 = true) (hdecl : (T k).1 = own) {ty : FieldType} {v : Value} (hd : parseFieldDescriptor (T k).2.2.1 = some ty) (hn : narrow ty v = v) (hfit : fits ty v = true) (hl : k < fs.length) (hU : gU D I a (.inr (ci, fs)) (.inr (ci, fs.set k v)) I') (hdg : decode cc pc = .ok (.putfield index, 3)) (kk : gx_W p l e R s m args below meth c nL I' cells slots Q (pc + 3) lv rest) : gx_W p l e R s m args below meth c nL I cells slots Q pc lv (v :: .ref a :: rest) := by
  intro H locs ls hI hL
  obtain ⟨ws, A, H0, hP, hD, hS, hm, hk1⟩ := hU H locs hI
  obtain ⟨q0, hq0⟩ := List.getElem?_of_mem hm
  refine va_putF C.x C.b C.t hin ty0 hty hnm C.o hK.1 hP hD hS q0 hq0 hc k hk (C.t _ hlink) (by rw [hsame]; exact fun _ h => h) hfin hini hdecl hd hn hfit hl hdg (fun H1 locs1 hP1 hD1 hS1 => ?_)
  rw [wset_of hD hq0] at hP1 hD1
  exact kk H1 locs1 ls (hk1 H1 locs1 hP1 hD1 hS1) hL
theorem gw_iald (C : gx_C p s m args meth c cc nL ret own) (hK : gK D ca s) {n : Nat} {f : Nat → Int32} (hm : gH D I a (.inl (ca 0, n, .inl f))) {i : Int32} (hin : vp_in i n) (hdg : decode cc pc = .ok (.iaload, 1)) (kk : gx_W p l e R s m args below meth c nL I cells slots Q (pc + 1) lv (.int (f i.toNatClampNeg) :: rest)) : gx_W p l e R s m args below meth c nL I cells slots Q pc lv (.int i :: .ref a :: rest) :=
  fun H locs ls hI hL => va_iald C.x C.b hK.1 (va_P.one (hm H locs hI)) 0 0 rfl rfl hin hdg (kk H locs ls hI hL)
theorem gw_lald (C : gx_C p s m args meth c cc nL ret own) (hK : gK D ca s) {n : Nat} {f : Nat → Int64} (hm : gH D I a (.inl (ca 1, n, .inr (.inl f)))) {i : Int32} (hin : vp_in i n) (hdg : decode cc pc = .ok (.laload, 1)) (kk : gx_W p l e R s m args below meth c nL I cells slots Q (pc + 1) lv (.long (f i.toNatClampNeg) :: rest)) : gx_W p l e R s m args below meth c nL I cells slots Q pc lv (.int i :: .ref a :: rest) :=
  fun H locs ls hI hL => va_lald C.x C.b hK.1 (va_P.one (hm H locs hI)) 0 1 rfl rfl hin hdg (kk H locs ls hI hL)
theorem gw_zald (C : gx_C p s m args meth c cc nL ret own) (hK : gK D ca s) {n : Nat} {f : Nat → Int32} (hm : gH D I a (.inl (ca 2, n, .inl f))) {i : Int32} (hin : vp_in i n) (hdg : decode cc pc = .ok (.baload, 1)) (kk : gx_W p l e R s m args below meth c nL I cells slots Q (pc + 1) lv (.int (f i.toNatClampNeg) :: rest)) : gx_W p l e R s m args below meth c nL I cells slots Q pc lv (.int i :: .ref a :: rest) :=
  fun H locs ls hI hL => va_zald C.x C.b hK.1 (va_P.one (hm H locs hI)) 0 2 rfl rfl hin hdg (kk H locs ls hI hL)
theorem gw_bald (C : gx_C p s m args meth c cc nL ret own) (hK : gK D ca s) {n : Nat} {f : Nat → Int32} (hm : gH D I a (.inl (ca 5, n, .inl f))) {i : Int32} (hin : vp_in i n) (hdg : decode cc pc = .ok (.baload, 1)) (kk : gx_W p l e R s m args below meth c nL I cells slots Q (pc + 1) lv (.int (f i.toNatClampNeg) :: rest)) : gx_W p l e R s m args below meth c nL I cells slots Q pc lv (.int i :: .ref a :: rest) :=
  fun H locs ls hI hL => va_bald C.x C.b hK.1 (va_P.one (hm H locs hI)) 0 5 rfl rfl hin hdg (kk H locs ls hI hL)
theorem gw_aldq (C : gx_C p s m args meth c cc nL ret own) (hK : gK D ca s) (t : Nat) {cA : ClassId} {E : String} (ht : (gtys ca)[t]? = some (cA, .object E)) {n : Nat} {f : Nat → Option Nat} (hm : gH D I a (.inl (cA, n, .inr (.inr (.inr (.inr f)))))) {i : Int32} (hin : vp_in i n) (hdg : decode cc pc = .ok (.aaload, 1)) (kk : gx_W p l e R s m args below meth c nL I cells slots Q (pc + 1) lv (va_rf (f i.toNatClampNeg) :: rest)) : gx_W p l e R s m args below meth c nL I cells slots Q pc lv (.int i :: .ref a :: rest) :=
  fun H locs ls hI hL => va_aldq C.x C.b hK.1 (va_P.one (hm H locs hI)) 0 t rfl ht hin hdg (kk H locs ls hI hL)
theorem gw_alen (C : gx_C p s m args meth c cc nL ret own) (hK : gK D ca s) (t : Nat) {cA : ClassId} {ty : FieldType} (ht : (gtys ca)[t]? = some (cA, ty)) {x : vp_A} (hm : gH D I a (.inl (cA, x))) (hdg : decode cc pc = .ok (.arraylength, 1)) (kk : gx_W p l e R s m args below meth c nL I cells slots Q (pc + 1) lv (.int (nI x.1) :: rest)) : gx_W p l e R s m args below meth c nL I cells slots Q pc lv (.ref a :: rest) :=
  fun H locs ls hI hL => va_alen C.x C.b hK.1 (va_P.one (hm H locs hI)) 0 t rfl ht rfl hdg (kk H locs ls hI hL)
theorem gw_iast (C : gx_C p s m args meth c cc nL ret own) (hK : gK D ca s) {n : Nat} {f : Nat → Int32} {i x : Int32} (hU : gU D I a (.inl (ca 0, n, .inl f)) (.inl (ca 0, n, .inl (upd f i.toNatClampNeg x))) I') (hin : vp_in i n) (hdg : decode cc pc = .ok (.iastore, 1)) (kk : gx_W p l e R s m args below meth c nL I' cells slots Q (pc + 1) lv rest) : gx_W p l e R s m args below meth c nL I cells slots Q pc lv (.int x :: .int i :: .ref a :: rest) := by
  intro H locs ls hI hL
  obtain ⟨ws, A, H0, hP, hD, hS, hm, hk1⟩ := hU H locs hI
  obtain ⟨q0, hq0⟩ := List.getElem?_of_mem hm
  refine va_iast C.x C.b hK.1 hP hD hS q0 0 hq0 rfl hin hdg (fun H1 locs1 hP1 hD1 hS1 => ?_)
  rw [wset_of hD hq0] at hP1 hD1
  exact kk H1 locs1 ls (hk1 H1 locs1 hP1 hD1 hS1) hL
theorem gw_zast (C : gx_C p s m args meth c cc nL ret own) (hK : gK D ca s) {n : Nat} {f : Nat → Int32} {i x : Int32} (hU : gU D I a (.inl (ca 2, n, .inl f)) (.inl (ca 2, n, .inl (upd f i.toNatClampNeg (vp_nar .boolean x)))) I') (hin : vp_in i n) (hdg : decode cc pc = .ok (.bastore, 1)) (kk : gx_W p l e R s m args below meth c nL I' cells slots Q (pc + 1) lv rest) : gx_W p l e R s m args below meth c nL I cells slots Q pc lv (.int x :: .int i :: .ref a :: rest) := by
  intro H locs ls hI hL
  obtain ⟨ws, A, H0, hP, hD, hS, hm, hk1⟩ := hU H locs hI
  obtain ⟨q0, hq0⟩ := List.getElem?_of_mem hm
  refine va_zast C.x C.b hK.1 hP hD hS q0 2 hq0 rfl hin hdg (fun H1 locs1 hP1 hD1 hS1 => ?_)
  rw [wset_of hD hq0] at hP1 hD1
  exact kk H1 locs1 ls (hk1 H1 locs1 hP1 hD1 hS1) hL
theorem gw_bast (C : gx_C p s m args meth c cc nL ret own) (hK : gK D ca s) {n : Nat} {f : Nat → Int32} {i x : Int32} (hU : gU D I a (.inl (ca 5, n, .inl f)) (.inl (ca 5, n, .inl (upd f i.toNatClampNeg (vp_nar .byte x)))) I') (hin : vp_in i n) (hdg : decode cc pc = .ok (.bastore, 1)) (kk : gx_W p l e R s m args below meth c nL I' cells slots Q (pc + 1) lv rest) : gx_W p l e R s m args below meth c nL I cells slots Q pc lv (.int x :: .int i :: .ref a :: rest) := by
  intro H locs ls hI hL
  obtain ⟨ws, A, H0, hP, hD, hS, hm, hk1⟩ := hU H locs hI
  obtain ⟨q0, hq0⟩ := List.getElem?_of_mem hm
  refine va_bast C.x C.b hK.1 hP hD hS q0 5 hq0 rfl hin hdg (fun H1 locs1 hP1 hD1 hS1 => ?_)
  rw [wset_of hD hq0] at hP1 hD1
  exact kk H1 locs1 ls (hk1 H1 locs1 hP1 hD1 hS1) hL
theorem gw_last (C : gx_C p s m args meth c cc nL ret own) (hK : gK D ca s) {n : Nat} {f : Nat → Int64} {i : Int32} {x : Int64} (hU : gU D I a (.inl (ca 1, n, .inr (.inl f))) (.inl (ca 1, n, .inr (.inl (vp_updL f i.toNatClampNeg x)))) I') (hin : vp_in i n) (hdg : decode cc pc = .ok (.lastore, 1)) (kk : gx_W p l e R s m args below meth c nL I' cells slots Q (pc + 1) lv rest) : gx_W p l e R s m args below meth c nL I cells slots Q pc lv (.long x :: .int i :: .ref a :: rest) := by
  intro H locs ls hI hL
  obtain ⟨ws, A, H0, hP, hD, hS, hm, hk1⟩ := hU H locs hI
  obtain ⟨q0, hq0⟩ := List.getElem?_of_mem hm
  refine va_last C.x C.b hK.1 hP hD hS q0 1 hq0 rfl hin hdg (fun H1 locs1 hP1 hD1 hS1 => ?_)
  rw [wset_of hD hq0] at hP1 hD1
  exact kk H1 locs1 ls (hk1 H1 locs1 hP1 hD1 hS1) hL
theorem gw_astq (C : gx_C p s m args meth c cc nL ret own) (hK : gK D ca s) (t : Nat) {cA : ClassId} {E : String} (ht : (gtys ca)[t]? = some (cA, .object E)) {n v : Nat} {f : Nat → Option Nat} {i : Int32} (hany : ∀ H locs, I H locs → va_Any E s H v) (hU : gU D I a (.inl (cA, n, .inr (.inr (.inr (.inr f))))) (.inl (cA, n, .inr (.inr (.inr (.inr (va_up f i.toNatClampNeg (some v))))))) I') (hin : vp_in i n) (hdg : decode cc pc = .ok (.aastore, 1)) (kk : gx_W p l e R s m args below meth c nL I' cells slots Q (pc + 1) lv rest) : gx_W p l e R s m args below meth c nL I cells slots Q pc lv (.ref v :: .int i :: .ref a :: rest) := by
  intro H locs ls hI hL
  obtain ⟨ws, A, H0, hP, hD, hS, hm, hk1⟩ := hU H locs hI
  obtain ⟨q0, hq0⟩ := List.getElem?_of_mem hm
  refine va_astqM C.x C.b hK.1 hP hD hS q0 t hq0 ht (hany H locs hI) hin hdg (fun H1 locs1 hP1 hD1 hS1 => ?_)
  rw [wset_of hD hq0] at hP1 hD1
  exact kk H1 locs1 ls (hk1 H1 locs1 hP1 hD1 hS1) hL
theorem gw_astqN (C : gx_C p s m args meth c cc nL ret own) (hK : gK D ca s) (t : Nat) {cA : ClassId} {E : String} (ht : (gtys ca)[t]? = some (cA, .object E)) {n : Nat} {f : Nat → Option Nat} {i : Int32} (hU : gU D I a (.inl (cA, n, .inr (.inr (.inr (.inr f))))) (.inl (cA, n, .inr (.inr (.inr (.inr (va_up f i.toNatClampNeg none)))))) I') (hin : vp_in i n) (hdg : decode cc pc = .ok (.aastore, 1)) (kk : gx_W p l e R s m args below meth c nL I' cells slots Q (pc + 1) lv rest) : gx_W p l e R s m args below meth c nL I cells slots Q pc lv (.null :: .int i :: .ref a :: rest) := by
  intro H locs ls hI hL
  obtain ⟨ws, A, H0, hP, hD, hS, hm, hk1⟩ := hU H locs hI
  obtain ⟨q0, hq0⟩ := List.getElem?_of_mem hm
  refine va_astqN C.x C.b hK.1 hP hD hS q0 t hq0 ht hin hdg (fun H1 locs1 hP1 hD1 hS1 => ?_)
  rw [wset_of hD hq0] at hP1 hD1
  exact kk H1 locs1 ls (hk1 H1 locs1 hP1 hD1 hS1) hL
theorem gw_new (C : gx_C p s m args meth c cc nL ret own) (hK : gK D ca s) {Cn : String} {T : u_T} {N ci index : Nat} {fs : List Value} (hin : ∀ w ∈ u_ws Cn T N, w ∈ lw_all) (ty0 : Nat → FieldType) (hty : ∀ k, k < N → parseFieldDescriptor (T k).2.2.1 = some (ty0 k)) (hcl : Cond.classLink own index Cn ∈ lw_all) (hinst : Cond.instantiable Cn N ∈ lw_all) (hini : Cond.initialized Cn ∈ lw_all) (hc : gcl[ci]? = some (Cn, T, N)) (hfs : ∀ j, j < N → defaultValue (ty0 j) = vp_V fs j) {I2 : Nat → Heap → List Loc → Prop} (hN : gN D I (.inr (ci, fs)) I2) (hcells : cells + 1 ≤ R.cells) (hslots : slots + N ≤ R.slots) (hdg : decode cc pc = .ok (.new index, 3)) (kk : ∀ q, gx_W p l e R s m args below meth c nL (I2 q) (cells + 1) (slots + N) Q (pc + 3) lv (.ref q :: rest)) : gx_W p l e R s m args below meth c nL I cells slots Q pc lv rest := by
  intro H locs ls hI hL
  obtain ⟨ws, A, H0, hP, hD, hS, hA, hk1⟩ := hN H locs hI
  exact va_new C.x C.b C.t hin ty0 hty C.o (C.t _ hcl) (C.t _ hinst) (C.t _ hini) hK.1 hP hD hS hA hc hfs hcells hslots hdg (fun q H1 hP1 hD1 hS1 => kk q H1 locs ls (hk1 q H1 hP1 hD1 hS1) hL)
/-- a new array of numbers: its class is the one that the tables' list gives at t -/
theorem gw_newa (C : gx_C p s m args meth c cc nL ret own) (hK : gK D ca s) {atype : ArrayType} {ty : FieldType} (hty : newarray.typeOf atype = ty) (harr : Cond.arrayClass (newarray.typeOf atype) ∈ lw_all) (t : Nat) {cA : ClassId} (ht : (gtys ca)[t]? = some (cA, ty)) (hb : ty = .int ∨ ty = .long ∨ ty = .boolean ∨ ty = .byte) {n : Int32} {N' : Nat} {a0 : vp_A} (ha : ∀ cB : ClassId, vp_cell cB a0 = arrV cB N' (fun _ => defaultValue ty)) (hn : ¬ n < 0) (hN' : n.toNatClampNeg = N') (hbytes : N' * componentBytes ty ≤ 536870912) {I2 : Nat → Heap → List Loc → Prop} (hN : gN D I (.inl (cA, a0)) I2) (hcells : cells + 1 ≤ R.cells) (hslots : slots + N' ≤ R.slots) (hdg : decode cc pc = .ok (.newarray atype, 2)) (kk : ∀ q, gx_W p l e R s m args below meth c nL (I2 q) (cells + 1) (slots + N') Q (pc + 2) lv (.ref q :: rest)) : gx_W p l e R s m args below meth c nL I cells slots Q pc lv (.int n :: rest) := by
  intro H locs ls hI hL
  obtain ⟨ws, A, H0, hP, hD, hS, hA, hk1⟩ := hN H locs hI
  refine va_newa C.x C.b (C.t _ harr) hty hK.1 hP hD hS hA ha hn hN' hbytes hcells hslots hdg (fun q cB H1 hK1 hP1 hD1 hS1 => ?_)
  have e1 := (hK1.2 (gtys ca).length (cB, ty) (by rw [List.getElem?_append_right (Nat.le_refl _), Nat.sub_self]; rfl)).2
  have e2 := (hK.1.2 t (cA, ty) ht).2
  have : cB = cA := by
    rcases hb with h | h | h | h <;> subst h <;> exact Option.some.inj (e1.symm.trans e2)
  subst this
  exact kk q H1 locs ls (hk1 q H1 hP1 hD1 hS1) hL
theorem gw_newq (C : gx_C p s m args meth c cc nL ret own) (hK : gK D ca s) {E : String} {index : Nat} (hcl : Cond.classLink own index E ∈ lw_all) (hover : va_AO E s) (t : Nat) {cA : ClassId} (ht : (gtys ca)[t]? = some (cA, .object E)) {n : Int32} {N' : Nat} (hn : ¬ n < 0) (hN' : n.toNatClampNeg = N') (hbytes : N' * 4 ≤ 536870912) {I2 : Nat → Heap → List Loc → Prop} (hN : gN D I (.inl (cA, N', .inr (.inr (.inr (.inr (fun _ => none)))))) I2) (hcells : cells + 1 ≤ R.cells) (hslots : slots + N' ≤ R.slots) (hdg : decode cc pc = .ok (.anewarray index, 3)) (kk : ∀ q, gx_W p l e R s m args below meth c nL (I2 q) (cells + 1) (slots + N') Q (pc + 3) lv (.ref q :: rest)) : gx_W p l e R s m args below meth c nL I cells slots Q pc lv (.int n :: rest) := by
  intro H locs ls hI hL
  obtain ⟨ws, A, H0, hP, hD, hS, hA, hk1⟩ := hN H locs hI
  have e2 := (hK.1.2 t (cA, .object E) ht).2
  refine va_newq C.x C.b C.o (C.t _ hcl) hover hK.1 hP hD hS hA hn hN' hbytes hcells hslots hdg (fun q cB H1 hK1 hP1 hD1 hS1 => ?_)
  have e1 := (hK1.2 (gtys ca).length (cB, .object E) (by rw [List.getElem?_append_right (Nat.le_refl _), Nat.sub_self]; rfl)).2
  obtain ⟨_, _, _, _, _, h1⟩ := e1
  obtain ⟨_, _, _, _, _, h2⟩ := e2
  have : cB = cA := Option.some.inj (h1.symm.trans h2)
  subst this
  exact kk q H1 locs ls (hk1 q H1 hP1 hD1 hS1) hL
theorem gw_recv (hK : gK D ca s) {ci : Nat} {q : vw_C} {fs : List Value} (hc : gcl[ci]? = some q) {x : Nat} {H : Heap} (h : va_at D gcl (x, .inr (ci, fs)) H) : ∃ cell : Cell, H[x]? = some cell ∧ cell.vm.isStatics = false ∧ s.vm.findClass q.1 = some cell.cls := va_recv hK.1 (va_P.one h) (q0 := 0) hc rfl
theorem gw_cast (C : gx_C p s m args meth c cc nL ret own) (hK : gK D ca s) {ci index N : Nat} {Cn : String} {T : u_T} {fs : List Value} (hc : gcl[ci]? = some (Cn, T, N)) (hm : gH D I a (.inr (ci, fs))) (hlink : Cond.classLink own index Cn ∈ lw_all) (hdg : decode cc pc = .ok (.checkcast index, 3)) (kk : gx_W p l e R s m args below meth c nL I cells slots Q (pc + 3) lv (.ref a :: rest)) : gx_W p l e R s m args below meth c nL I cells slots Q pc lv (.ref a :: rest) :=
  fun H locs ls hI hL => va_castS C.x C.b C.o (C.t _ hlink) (hK.1.1 ci _ hc).2 (gw_recv hK hc (hm H locs hI)) hdg (kk H locs ls hI hL)
theorem gw_inst (C : gx_C p s m args meth c cc nL ret own) (hK : gK D ca s) {ci index N : Nat} {Cn : String} {T : u_T} {fs : List Value} (hc : gcl[ci]? = some (Cn, T, N)) (hm : gH D I a (.inr (ci, fs))) (hlink : Cond.classLink own index Cn ∈ lw_all) (hdg : decode cc pc = .ok (.instanceof index, 3)) (kk : gx_W p l e R s m args below meth c nL I cells slots Q (pc + 3) lv (.int 1 :: rest)) : gx_W p l e R s m args below meth c nL I cells slots Q pc lv (.ref a :: rest) :=
  fun H locs ls hI hL => va_instS C.x C.b C.o (C.t _ hlink) (hK.1.1 ci _ hc).2 (gw_recv hK hc (hm H locs hI)) hdg (kk H locs ls hI hL)
/-- calls of methods that leave the heap as it is -/
theorem gw_roi {y : MethodName} {bytes : ByteArray} {maxL n index : Nat} {r0 : Option FieldType} {rm : Room} {Cn : String} {As st : List Value} {Pc : Array Value → State → Prop} {Qf : Int32 → Prop} (C : gx_C p s m args meth c cc nL ret own) (hM : Met l y (ws_ y bytes maxL r0) rm Pc (vp_Si Qf) 0 0 (fun _ => False)) (cw : CallW R s args own Cn index y bytes maxL r0 (ws_ y bytes maxL r0) rm 0 0 n) (hp : ∀ H locs, I H locs → PreV s H Cn a Pc As) (hn : As.length = n) (hst : st = As.reverse ++ .ref a :: rest) (hr : (rest.map fun v => v.category).sum ≤ 8) (hf : cells ≤ R.cells ∧ slots ≤ R.slots) (hdg : decode cc pc = .ok (.invokevirtual index, 3)) (kk : ∀ r, Qf r → gx_W p l e R s m args below meth c nL I cells slots Q (pc + 3) lv (.int r :: rest)) : gx_W p l e R s m args below meth c nL I cells slots Q pc lv st := by
  intro H locs ls hI hL
  subst hst
  exact vp_callSi (W.runV C.1 hM cw (hp H locs hI) rfl hn hL.1 rfl (lv_room hr) hdg hf) (fun r h => kk r h H locs ls hI hL)
theorem gw_rol {y : MethodName} {bytes : ByteArray} {maxL n index : Nat} {r0 : Option FieldType} {rm : Room} {Cn : String} {As st : List Value} {Pc : Array Value → State → Prop} {Qf : Int64 → Prop} (C : gx_C p s m args meth c cc nL ret own) (hM : Met l y (ws_ y bytes maxL r0) rm Pc (vp_Sl Qf) 0 0 (fun _ => False)) (cw : CallW R s args own Cn index y bytes maxL r0 (ws_ y bytes maxL r0) rm 0 0 n) (hp : ∀ H locs, I H locs → PreV s H Cn a Pc As) (hn : As.length = n) (hst : st = As.reverse ++ .ref a :: rest) (hr : (rest.map fun v => v.category).sum ≤ 8) (hf : cells ≤ R.cells ∧ slots ≤ R.slots) (hdg : decode cc pc = .ok (.invokevirtual index, 3)) (kk : ∀ r, Qf r → gx_W p l e R s m args below meth c nL I cells slots Q (pc + 3) lv (.long r :: rest)) : gx_W p l e R s m args below meth c nL I cells slots Q pc lv st := by
  intro H locs ls hI hL
  subst hst
  exact vp_callSl (W.runV C.1 hM cw (hp H locs hI) rfl hn hL.1 rfl (lv_room hr) hdg hf) (fun r h => kk r h H locs ls hI hL)
theorem gw_roq {y : MethodName} {bytes : ByteArray} {maxL n index : Nat} {r0 : Option FieldType} {rm : Room} {Cn : String} {As st : List Value} {Pc : Array Value → State → Prop} {Qf : Option Nat → Prop} (C : gx_C p s m args meth c cc nL ret own) (hM : Met l y (ws_ y bytes maxL r0) rm Pc (va_Sq Qf) 0 0 (fun _ => False)) (cw : CallW R s args own Cn index y bytes maxL r0 (ws_ y bytes maxL r0) rm 0 0 n) (hp : ∀ H locs, I H locs → PreV s H Cn a Pc As) (hn : As.length = n) (hst : st = As.reverse ++ .ref a :: rest) (hr : (rest.map fun v => v.category).sum ≤ 8) (hf : cells ≤ R.cells ∧ slots ≤ R.slots) (hdg : decode cc pc = .ok (.invokevirtual index, 3)) (kk : ∀ r, Qf r → gx_W p l e R s m args below meth c nL I cells slots Q (pc + 3) lv (va_rf r :: rest)) : gx_W p l e R s m args below meth c nL I cells slots Q pc lv st := by
  intro H locs ls hI hL
  subst hst
  exact va_csq (W.runV C.1 hM cw (hp H locs hI) rfl hn hL.1 rfl (lv_room hr) hdg hf) (fun r h => kk r h H locs ls hI hL)
/-- a nest mate's static method that touches no heap -/
theorem gw_callsN {y : MethodName} {bytes : ByteArray} {maxL n index : Nat} {r0 : Option FieldType} {rm : Room} {host : String} {As st : List Value} {Qf : Int32 → Prop} (C : gx_C p s m args meth c cc nL ret own) (hM : Met l y (ws_ y bytes maxL r0) rm (va_Pc As (fun _ => True)) (vp_Si Qf) 0 0 (fun _ => False)) (cw : va_CN R s args own index y host bytes maxL r0 (ws_ y bytes maxL r0) rm 0 0 n ∧ (Cond.static y).before args s = true ∧ True) (hn : As.length = n) (hst : st = As.reverse ++ rest) (hr : (rest.map fun v => v.category).sum ≤ 8) (hf : cells ≤ R.cells ∧ slots ≤ R.slots) (hdg : decode cc pc = .ok (.invokestatic index, 3)) (kk : ∀ r, Qf r → gx_W p l e R s m args below meth c nL I cells slots Q (pc + 3) lv (.int r :: rest)) : gx_W p l e R s m args below meth c nL I cells slots Q pc lv st := by
  intro H locs ls hI hL
  subst hst
  exact vp_callSi ((va_runSN C.1 hM cw ⟨fun a U g mk q => ⟨q.1, trivial⟩, fun U _ _ => ⟨rfl, trivial⟩⟩ rfl hn hL.1 rfl (lv_room hr) hdg hf).run) (fun r h => kk r h H locs ls hI hL)
/-! references that may be null -/
theorem va_rf_cat (r : Option Nat) : (va_rf r).category = 1 := by cases r <;> rfl
theorem gx_aload_q (C : gx_C p s m args meth c cc nL ret own) {i : Nat} {x : Option Nat} (hdg : decode cc pc = .ok (.aload i, 2)) (j : Nat) (hl : lv[j]? = some (i, va_rf x)) (kk : gx_W p l e R s m args below meth c nL I cells slots Q (pc + 2) lv (va_rf x :: rest)) : gx_W p l e R s m args below meth c nL I cells slots Q pc lv rest := by
  cases x with
  | none => exact gx_aloadN C hdg j hl kk
  | some x => exact gx_aload C hdg j hl kk
theorem gx_aload_nq (C : gx_C p s m args meth c cc nL ret own) {k : Fin 4} {i : Nat} {x : Option Nat} (hdg : decode cc pc = .ok (.aload_n k, 1)) (hi : (k : Nat) = i) (j : Nat) (hl : lv[j]? = some (i, va_rf x)) (kk : gx_W p l e R s m args below meth c nL I cells slots Q (pc + 1) lv (va_rf x :: rest)) : gx_W p l e R s m args below meth c nL I cells slots Q pc lv rest := by
  cases x with
  | none => exact gx_aload_nN C hdg hi j hl kk
  | some x => exact gx_aload_n C hdg hi j hl kk
theorem gx_astore_q (C : gx_C p s m args meth c cc nL ret own) {i : Nat} {x : Option Nat} (hdg : decode cc pc = .ok (.astore i, 2)) (hn : i < nL) (hl : (i, va_rf x) :: lv.filter (fun q => !(q.1 == i) && !(q.1 + 1 == i && q.2.category == 2)) = lv') (kk : gx_W p l e R s m args below meth c nL I cells slots Q (pc + 2) lv' rest) : gx_W p l e R s m args below meth c nL I cells slots Q pc lv (va_rf x :: rest) := by
  cases x with
  | none => exact gx_astoreN C hdg hn hl kk
  | some x => exact gx_astore C hdg hn hl kk
theorem gx_astore_nq (C : gx_C p s m args meth c cc nL ret own) {k : Fin 4} {i : Nat} {x : Option Nat} (hdg : decode cc pc = .ok (.astore_n k, 1)) (hi : (k : Nat) = i) (hn : i < nL) (hl : (i, va_rf x) :: lv.filter (fun q => !(q.1 == i) && !(q.1 + 1 == i && q.2.category == 2)) = lv') (kk : gx_W p l e R s m args below meth c nL I cells slots Q (pc + 1) lv' rest) : gx_W p l e R s m args below meth c nL I cells slots Q pc lv (va_rf x :: rest) := by
  cases x with
  | none => exact gx_astore_nN C hdg hi hn hl kk
  | some x => exact gx_astore_n C hdg hi hn hl kk
theorem gx_ifnull_q (C : gx_C p s m args meth c cc nL ret own) {x : Option Nat} {off : Int} {tgt : Nat} (hdg : decode cc pc = .ok (.ifnull off, 3)) (ht : (pc : Int) + off = (tgt : Int)) (kt : x = none → gx_W p l e R s m args below meth c nL I cells slots Q tgt lv rest) (kf : ∀ o, x = some o → gx_W p l e R s m args below meth c nL I cells slots Q (pc + 3) lv rest) : gx_W p l e R s m args below meth c nL I cells slots Q pc lv (va_rf x :: rest) := by
  cases x with
  | none => exact gx_ifnullN C hdg ht (kt rfl)
  | some o => exact gx_ifnull C hdg (kf o rfl)
theorem gx_ifnonnull_q (C : gx_C p s m args meth c cc nL ret own) {x : Option Nat} {off : Int} {tgt : Nat} (hdg : decode cc pc = .ok (.ifnonnull off, 3)) (ht : (pc : Int) + off = (tgt : Int)) (kt : ∀ o, x = some o → gx_W p l e R s m args below meth c nL I cells slots Q tgt lv rest) (kf : x = none → gx_W p l e R s m args below meth c nL I cells slots Q (pc + 3) lv rest) : gx_W p l e R s m args below meth c nL I cells slots Q pc lv (va_rf x :: rest) := by
  cases x with
  | none => exact gx_ifnonnullN C hdg (kf rfl)
  | some o => exact gx_ifnonnull C hdg ht (kt o rfl)
theorem gx_tableAt {v : Int32} (C : gx_C p s m args meth c cc nL ret own) {dflt lo hi : Int} {offs : Array Int} {len : Nat} {x : Int32} {off : Int} {tgt : Nat} (z : x = v) (hdg : decode cc pc = .ok (.tableswitch dflt lo hi offs, len)) (h1 : ¬ v.toInt < lo) (h2 : ¬ hi < v.toInt) (ho : offs[(v.toInt - lo).toNat]? = some off) (ht : (pc : Int) + off = (tgt : Int)) (kk : gx_W p l e R s m args below meth c nL I cells slots Q tgt lv rest) : gx_W p l e R s m args below meth c nL I cells slots Q pc lv (.int x :: rest) := by
  subst z
  exact gx_tableIn C hdg h1 h2 ho ht kk
theorem gx_lookupAt {v : Int32} (C : gx_C p s m args meth c cc nL ret own) {dflt : Int} {ps : Array (Int × Int)} {len : Nat} {x : Int32} {off : Int} {tgt : Nat} (z : x = v) (hdg : decode cc pc = .ok (.lookupswitch dflt ps, len)) (hp : (ps.toList.zip (ps.toList.drop 1)).all (fun (a, next) => a.1 < next.1) = true) (ho : Op.lookupswitch.offset ps.toList dflt v.toInt = off) (ht : (pc : Int) + off = (tgt : Int)) (kk : gx_W p l e R s m args below meth c nL I cells slots Q tgt lv rest) : gx_W p l e R s m args below meth c nL I cells slots Q pc lv (.int x :: rest) := by
  subst z
  exact gx_lookup C hdg hp ho ht kk
theorem gx_mmax (C : gx_C p s m args meth c cc nL ret own) {index : Nat} (hlink : Cond.methodLink own index Lib.Math.max.name ∈ lw_all) (hstat : Cond.static Lib.Math.max.name ∈ lw_all) (hini : Cond.initialized "java/lang/Math" ∈ lw_all) (hcode : Cond.code Lib.Math.max.name Lib.Math.max.code 2 (some .int) ∈ lw_all) (hframes : 1 ≤ R.frames) (hlocals : (rest.map fun v => v.category).sum + 13 ≤ R.locals) (hf : cells ≤ R.cells ∧ slots ≤ R.slots) {x y : Int32} (hdg : decode cc pc = .ok (.invokestatic index, 3)) (kk : gx_W p l e R s m args below meth c nL I cells slots Q (pc + 3) lv (.int (if x < y then y else x) :: rest)) : gx_W p l e R s m args below meth c nL I cells slots Q pc lv (.int y :: .int x :: rest) :=
  fun H locs ls hI hL => va_mmax C.x C.b (C.ml.trans hL.1.symm) C.o (C.t _ hlink) (C.t _ hstat) (C.t _ hini) (C.t _ hcode) hframes hlocals hf.1 hf.2 hdg (kk H locs ls hI hL)
theorem gx_mmin (C : gx_C p s m args meth c cc nL ret own) {index : Nat} (hlink : Cond.methodLink own index Lib.Math.min.name ∈ lw_all) (hstat : Cond.static Lib.Math.min.name ∈ lw_all) (hini : Cond.initialized "java/lang/Math" ∈ lw_all) (hcode : Cond.code Lib.Math.min.name Lib.Math.min.code 2 (some .int) ∈ lw_all) (hframes : 1 ≤ R.frames) (hlocals : (rest.map fun v => v.category).sum + 13 ≤ R.locals) (hf : cells ≤ R.cells ∧ slots ≤ R.slots) {x y : Int32} (hdg : decode cc pc = .ok (.invokestatic index, 3)) (kk : gx_W p l e R s m args below meth c nL I cells slots Q (pc + 3) lv (.int (if y < x then y else x) :: rest)) : gx_W p l e R s m args below meth c nL I cells slots Q pc lv (.int y :: .int x :: rest) :=
  fun H locs ls hI hL => va_mmin C.x C.b (C.ml.trans hL.1.symm) C.o (C.t _ hlink) (C.t _ hstat) (C.t _ hini) (C.t _ hcode) hframes hlocals hf.1 hf.2 hdg (kk H locs ls hI hL)
theorem gx_mabs (C : gx_C p s m args meth c cc nL ret own) {index : Nat} (hlink : Cond.methodLink own index Lib.Math.abs.name ∈ lw_all) (hstat : Cond.static Lib.Math.abs.name ∈ lw_all) (hini : Cond.initialized "java/lang/Math" ∈ lw_all) (hcode : Cond.code Lib.Math.abs.name Lib.Math.abs.code 1 (some .int) ∈ lw_all) (hframes : 1 ≤ R.frames) (hlocals : (rest.map fun v => v.category).sum + 13 ≤ R.locals) (hf : cells ≤ R.cells ∧ slots ≤ R.slots) {x : Int32} (hdg : decode cc pc = .ok (.invokestatic index, 3)) (kk : gx_W p l e R s m args below meth c nL I cells slots Q (pc + 3) lv (.int (if 0 ≤ x then x else 0 - x) :: rest)) : gx_W p l e R s m args below meth c nL I cells slots Q pc lv (.int x :: rest) :=
  fun H locs ls hI hL => va_mabs C.x C.b (C.ml.trans hL.1.symm) C.o (C.t _ hlink) (C.t _ hstat) (C.t _ hini) (C.t _ hcode) hframes hlocals hf.1 hf.2 hdg (kk H locs ls hI hL)
/-! a world that is read alone -/
def ro_I (D : va_G) (s : State) (ws : va_W) (H : Heap) (locs : List Loc) : Prop := H = s.heap ∧ locs = [] ∧ va_P D gcl ws H
def ro_P (D : va_G) (ca : Nat → ClassId) (ws : va_W) (U : State) : Prop := va_P D gcl ws U.heap ∧ gK D ca U
theorem ro_H {ws : va_W} {x : va_E} (k : Nat) (h : ws[k]? = some (a, x)) : gH D (ro_I D s ws) a x := fun _ _ hI => hI.2.2 k _ h
theorem ro_entry {y : MethodName} {bytes : ByteArray} {maxL : Nat} {rm : Room} {As : List Value} {ws : va_W} {Qc : Array Value → State → Outcome → State → Prop} (hy : plainName y.cls = true) (hl : (lg_sl As).length ≤ maxL) (body : ∀ (p : Program) (e : Env) (s : State) (m : MethodId) (args : Array Value) (below : List Frame) (meth : Method) (c : Code), gx_C p s m args meth c bytes maxL ret y.cls → gK D ca s → gx_W p l e (headSpec (ws_ y bytes maxL ret) rm).room s m args below meth c maxL (ro_I D s ws) 0 0 (MQ below Qc args s 0 0 (fun _ => False)) 0 (lv_args 0 As) []) : Met l y (ws_ y bytes maxL ret) rm (va_Pc As (ro_P D ca ws)) Qc 0 0 (fun _ => False) := by
  refine Met.ofW (cc := bytes) (maxL := maxL) (ret := ret) hy rfl ?_
  intro p e s m args below meth c s₁ B hml hv
  obtain ⟨ha, hP, hK⟩ := hv
  have hts := atoms_spec (ws := ws_ y bytes maxL ret) B.pre
  have hts : ∀ w ∈ lw_all, w.before args s = true := fun w h => hts w (List.mem_cons_of_mem _ h)
  have hk := body p e s m args below meth c ⟨⟨B.exec, B.bytes, hml, findClass_of_methodNamed B.named, hts⟩, B.returns, B.notSynchronized⟩ hK
  have h0 := hk s.heap [] _ ⟨rfl, rfl, hP⟩ (lv_entry As hl)
  rw [← lg_entry_eq, ← ha] at h0
  exact h0
theorem ro_iret {ws : va_W} {Qf : Int32 → Prop} {v : Int32} (C : gx_C p s m args meth c cc nL (some .int) own) (hq : Qf v) (hdg : decode cc pc = .ok (.ireturn, 1)) : gx_W p l e R s m args below meth c nL (ro_I D s ws) 0 0 (MQ below (vp_Si Qf) args s 0 0 (fun _ => False)) pc lv [.int v] := by
  intro H locs ls hI hL
  obtain ⟨rfl, rfl, -⟩ := hI
  exact W.iret C.x C.b C.r (fun t ht hW => ⟨v, rfl, hq, ht⟩) (fun q h => by cases h) hdg C.k
theorem ro_zret {ws : va_W} {Qf : Int32 → Prop} {v : Int32} {ty : FieldType} (C : gx_C p s m args meth c cc nL (some ty) own) (hn : narrow ty (.int v) = .int v) (hq : Qf v) (hdg : decode cc pc = .ok (.ireturn, 1)) : gx_W p l e R s m args below meth c nL (ro_I D s ws) 0 0 (MQ below (vp_Si Qf) args s 0 0 (fun _ => False)) pc lv [.int v] := by
  intro H locs ls hI hL
  obtain ⟨rfl, rfl, -⟩ := hI
  exact W.zret C.x C.b C.r hn (fun t ht hW => ⟨v, rfl, hq, ht⟩) (fun q h => by cases h) hdg C.k
theorem ro_aret {ws : va_W} {Qf : Option Nat → Prop} {r : Option Nat} {ty : FieldType} (hrt : (∃ n, ty = .object n) ∨ ∃ t, ty = .array t) (C : gx_C p s m args meth c cc nL (some ty) own) (hq : Qf r) (hdg : decode cc pc = .ok (.areturn, 1)) : gx_W p l e R s m args below meth c nL (ro_I D s ws) 0 0 (MQ below (va_Sq Qf) args s 0 0 (fun _ => False)) pc lv [va_rf r] := by
  intro H locs ls hI hL
  obtain ⟨rfl, rfl, -⟩ := hI
  exact W.aret C.x C.b C.r hrt (by cases r with | none => exact Or.inl rfl | some x => exact Or.inr ⟨x, rfl⟩) (fun t ht hW => ⟨r, rfl, hq, ht⟩) (fun q h => by cases h) hdg C.k
/-- the callee's start, for a method of a world that is read alone -/
theorem ro_pre {ws : va_W} {As : List Value} {ci : Nat} {q : vw_C} {fs : List Value} (hK : gK D ca s) (hc : gcl[ci]? = some q) (hm : gH D I a (.inr (ci, fs))) (hw : ∀ H locs, I H locs → va_P D gcl ws H) : ∀ H locs, I H locs → PreV s H q.1 a (va_Pc (.ref a :: As) (ro_P D ca ws)) As :=
  fun H locs hI => ⟨fun a' U gg mk z => ⟨z.1, z.2.1, gK.same (U := U.calling gg mk a') rfl z.2.2⟩, gw_recv hK hc (hm H locs hI), fun U hU hW => ⟨rfl, by rw [hU]; exact hw H locs hI, hK.moved hW⟩⟩
end GW
