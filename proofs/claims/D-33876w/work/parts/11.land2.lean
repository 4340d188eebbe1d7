/-! Rows of one Land's world: its lists, its boxes' own methods -/
set_option maxRecDepth 100000
set_option maxHeartbeats 4000000
theorem al_mem {xs : List Nat} {i : Int32} (h : vp_in i xs.length) : xs.getD i.toNatClampNeg 0 ∈ xs := by
  have hl : i.toNatClampNeg < xs.length := Nat.not_le.mp fun q => h (Or.inr q)
  rw [List.getD_eq_getElem?_getD, List.getElem?_eq_getElem hl]
  exact List.getElem_mem hl
def ls_rm (L : LSt) (i : Int32) : LSt := (L.1, L.2.1, L.2.2.1.eraseIdx i.toNatClampNeg, L.2.2.2)
theorem va_P_iff {D : va_G} {cl : List vw_C} {ws : va_W} {H : Heap} : va_P D cl ws H ↔ ∀ q ∈ ws, va_at D cl q H := ⟨fun h q hq => h.mem hq, fun h k q hk => h q (List.mem_of_getElem? hk)⟩
theorem va_D_iff {A : Nat → Prop} {ws : va_W} : va_D A ws ↔ (ws.map Prod.fst).Nodup ∧ ∀ q ∈ ws, A q.1 := by
  constructor
  · intro h
    refine ⟨List.pairwise_iff_getElem.mpr ?_, fun q hq => h.mem hq⟩
    intro i j hi hj hij z
    rw [List.length_map] at hi hj
    rw [List.getElem_map, List.getElem_map] at z
    have := h.1 i j _ _ (List.getElem?_eq_getElem hi) (List.getElem?_eq_getElem hj) z
    omega
  · intro h
    refine ⟨fun i j p q hi hj z => ?_, fun k q hk => h.2 q (List.mem_of_getElem? hk)⟩
    have hn := List.pairwise_iff_getElem.mp h.1
    obtain ⟨li, ei⟩ := List.getElem?_eq_some_iff.mp hi
    obtain ⟨lj, ej⟩ := List.getElem?_eq_some_iff.mp hj
    rcases Nat.lt_trichotomy i j with c | c | c
    · exact absurd (by rw [List.getElem_map, List.getElem_map, ei, ej]; exact z) (hn i j (by rw [List.length_map]; exact li) (by rw [List.length_map]; exact lj) c)
    · exact c
    · exact absurd (by rw [List.getElem_map, List.getElem_map, ei, ej]; exact z.symm) (hn j i (by rw [List.length_map]; exact lj) (by rw [List.length_map]; exact li) c)
theorem va_D.sublist {A : Nat → Prop} {w1 w2 : va_W} (h : va_D A w2) (hs : w1.Sublist w2) : va_D A w1 := by
  rw [va_D_iff] at h ⊢
  exact ⟨h.1.sublist (hs.map _), fun q hq => h.2 q (hs.subset hq)⟩
theorem va_P.sublist {D : va_G} {cl : List vw_C} {w1 w2 : va_W} {H : Heap} (h : va_P D cl w2 H) (hs : w1.Sublist w2) : va_P D cl w1 H := va_P_iff.mpr fun q hq => h.mem (hs.subset hq)
theorem va_D.perm {A : Nat → Prop} {w1 w2 : va_W} (h : va_D A w2) (hs : w1.Perm w2) : va_D A w1 := by
  rw [va_D_iff] at h ⊢
  exact ⟨(hs.map _).nodup_iff.mpr h.1, fun q hq => h.2 q (hs.subset hq)⟩
theorem va_P.perm {D : va_G} {cl : List vw_C} {w1 w2 : va_W} {H : Heap} (h : va_P D cl w2 H) (hs : w1.Perm w2) : va_P D cl w1 H := va_P_iff.mpr fun q hq => h.mem (hs.subset hq)
theorem w_joinM {A0 : Nat → Prop} {D : va_G} {cl : List vw_C} {u w1 w1' v : va_W} {H H1 : Heap} (hP : va_P D cl (u ++ (w1 ++ v)) H) (hD : va_D A0 (u ++ (w1 ++ v))) (hA : ∀ q, va_A w1 H.size q → A0 q) (hk : ∀ q : Nat, q < H.size → ¬ va_A w1 H.size q → H1[q]? = H[q]?) (hP1 : va_P D cl w1' H1) (hD1 : va_D (va_A w1 H.size) w1') : va_P D cl (u ++ (w1' ++ v)) H1 ∧ va_D A0 (u ++ (w1' ++ v)) := by
  have p1 : ∀ w : va_W, (w ++ (u ++ v)).Perm (u ++ (w ++ v)) := fun w => by
    rw [← List.append_assoc, ← List.append_assoc]
    exact List.Perm.append_right v List.perm_append_comm
  obtain ⟨a, b⟩ := w_join (hP.perm (p1 w1)) (hD.perm (p1 w1)) hA hk hP1 hD1
  exact ⟨a.perm (p1 w1').symm, b.perm (p1 w1').symm⟩
theorem va_A_sub {A : Nat → Prop} {D : va_G} {cl : List vw_C} {u w v : va_W} {H H0 : Heap} {locs : List Loc} (hD : va_D A (u ++ (w ++ v))) (hA : ∀ q, H0.size ≤ q → A q) (hS : va_S A H0 H locs) : ∀ q, va_A w H.size q → A q := by
  intro q h
  rcases h with ⟨k, x, h⟩ | h
  · exact hD.r.l.2 k (q, x) h
  · exact hA q (Nat.le_trans hS.1 h)
abbrev rmJ2_remove : Room := { frames := 6, cells := 0, slots := 0, locals := 200 }
theorem dmJ2_remove : yJ2_remove.cls ≠ "java/lang/invoke/MethodHandle" ∧ yJ2_remove.cls ≠ "java/lang/invoke/VarHandle" ∧ (parseMethodDescriptor yJ2_remove.desc).map (fun d => d.parameters.length) = some 1 := by decide +kernel
/-- what an ArrayList's method finds, and leaves -/
def al_P (D : va_G) (ca : Nat → ClassId) (Z : va_W) (sz : Nat) (U : State) : Prop := U.heap.size = sz ∧ va_P D gcl Z U.heap ∧ va_D (fun _ => True) Z ∧ gK D ca U
def al_B (D : va_G) (ca : Nat → ClassId) (t0 a : Nat) (xs : List Nat) (cap : Nat) (A : Nat → Prop) (t : State) : Prop := ∃ Z, alZ t0 a ca xs cap Z ∧ va_P D gcl Z t.heap ∧ va_D A Z
theorem jk_J2_remove {l : Launch} {D : va_G} {ca : Nat → ClassId} {t0 a cap sz : Nat} {xs : List Nat} {Z : va_W} {i : Int32} (hz : alZ t0 a ca xs cap Z) (hin : vp_in i xs.length) : Met l yJ2_remove (ws_ yJ2_remove cJ2_remove 4 (some (.object "java/lang/Object"))) rmJ2_remove (va_Pc [.ref a, .int i] (al_P D ca Z sz)) (va_Qr (fun _ : Unit => True) (fun _ r t => r = xs.getD i.toNatClampNeg 0 ∧ al_B D ca t0 a (xs.eraseIdx i.toNatClampNeg) cap (va_A Z sz) t) (va_A Z sz)) 0 0 (va_A Z sz) := sorry
section LN
variable {p : Program} {l : Launch} {e : Env} {R : Room} {s : State} {m : MethodId} {args : Array Value} {below : List Frame} {meth : Method} {c : Code} {cc : ByteArray} {nL : Nat} {ret : Option FieldType} {own : String} {I I' : Heap → List Loc → Prop} {cells slots mc ms : Nat} {Q : State → Prop} {pc : Nat} {lv lv' : List (Nat × Value)} {rest : List Value} {D : va_G} {t0 : Nat} {g : Nat → Nat} {ca : Nat → ClassId} {A : Nat → Prop} {L : LSt} {X : va_W} {a : Nat} {xs : List Nat}
/-- a static method that touches no heap, but calls nest mates -/
theorem psK_entry {y : MethodName} {bytes : ByteArray} {maxL : Nat} {rm : Room} {As : List Value} {Qc : Array Value → State → Outcome → State → Prop} (hy : plainName y.cls = true) (hl : (lg_sl As).length ≤ maxL) (body : ∀ (p : Program) (e : Env) (s : State) (m : MethodId) (args : Array Value) (below : List Frame) (meth : Method) (c : Code), gx_C p s m args meth c bytes maxL ret y.cls → gK D ca s → gx_W p l e (headSpec (ws_ y bytes maxL ret) rm).room s m args below meth c maxL (ps_I s) 0 0 (MQ below Qc args s 0 0 (fun _ => False)) 0 (lv_args 0 As) []) : Met l y (ws_ y bytes maxL ret) rm (va_Pc As (gK D ca)) Qc 0 0 (fun _ => False) := by
  refine Met.ofW (cc := bytes) (maxL := maxL) (ret := ret) hy rfl ?_
  intro p e s m args below meth c s₁ B hml hv
  obtain ⟨ha, hK⟩ := hv
  have hts := atoms_spec (ws := ws_ y bytes maxL ret) B.pre
  have hts : ∀ w ∈ lw_all, w.before args s = true := fun w h => hts w (List.mem_cons_of_mem _ h)
  have hk := body p e s m args below meth c ⟨⟨B.exec, B.bytes, hml, findClass_of_methodNamed B.named, hts⟩, B.returns, B.notSynchronized⟩ hK
  have h0 := hk s.heap [] _ ⟨rfl, rfl⟩ (lv_entry As hl)
  rw [← lg_entry_eq, ← ha] at h0
  exact h0
theorem gx_callsK {y : MethodName} {bytes : ByteArray} {maxL n index : Nat} {r0 : Option FieldType} {rm : Room} {As st : List Value} {Qf : Int32 → Prop} (C : gx_C p s m args meth c cc nL ret own) (hK : gK D ca s) (hM : Met l y (ws_ y bytes maxL r0) rm (va_Pc As (gK D ca)) (vp_Si Qf) 0 0 (fun _ => False)) (cw : CallB R s args own index y bytes maxL r0 (ws_ y bytes maxL r0) rm 0 0 n ∧ (Cond.static y).before args s = true) (hn : As.length = n) (hst : st = As.reverse ++ rest) (hr : (rest.map fun v => v.category).sum ≤ 8) (hc : cells ≤ R.cells ∧ slots ≤ R.slots) (hdg : decode cc pc = .ok (.invokestatic index, 3)) (kk : ∀ r, Qf r → gx_W p l e R s m args below meth c nL I cells slots Q (pc + 3) lv (.int r :: rest)) : gx_W p l e R s m args below meth c nL I cells slots Q pc lv st := by
  intro H locs ls hI hL
  subst hst
  exact vp_callSi (W.runS C.1 hM cw ⟨fun a U g mk q => ⟨q.1, gK.same (U := U.calling g mk a) rfl q.2⟩, fun U _ hW => ⟨rfl, hK.moved hW⟩⟩ rfl hn hL.1 rfl (lv_room hr) hdg hc) (fun r h => kk r h H locs ls hI hL)
/-- the world I holds at a an ArrayList of xs -/
def gL (D : va_G) (ca : Nat → ClassId) (I : Heap → List Loc → Prop) (a : Nat) (xs : List Nat) : Prop := ∀ H locs, I H locs → ∃ (t0 cap : Nat) (Z : va_W), alZ t0 a ca xs cap Z ∧ va_P D gcl Z H
theorem al_cell {cap : Nat} {Z : va_W} {H : Heap} (h : alZ t0 a ca xs cap Z) (hP : va_P D gcl Z H) : ∃ (md : Int32) (e0 : Nat), va_at D gcl (a, .inr (8, [.int md, .ref e0, .int (nI xs.length)])) H := by
  obtain ⟨md, e0, f, -, -, -, h⟩ := h
  refine ⟨md, e0, ?_⟩
  rcases h with ⟨-, -, rfl⟩ | ⟨-, rfl⟩ <;> exact hP 0 _ rfl
theorem al_arr {cap : Nat} {Z : va_W} {H : Heap} (h : alZ t0 a ca xs cap Z) (hP : va_P D gcl Z H) (hl : 0 < xs.length) : ∃ (md : Int32) (e0 : Nat) (f : Nat → Option Nat), xs.length ≤ cap ∧ cap < 65536 ∧ (∀ i, i < xs.length → f i = some (xs.getD i 0)) ∧ va_P D gcl [(a, .inr (8, [.int md, .ref e0, .int (nI xs.length)])), (e0, .inl (ca 3, cap, .inr (.inr (.inr (.inr f)))))] H := by
  obtain ⟨md, e0, f, h1, h2, h3, h⟩ := h
  rcases h with ⟨hc, -, rfl⟩ | ⟨-, rfl⟩
  · omega
  · exact ⟨md, e0, f, h1, h2, h3, hP⟩
theorem al_rsize {n index : Nat} (C : gx_C p s m args meth c cc nL ret own) (hK : gK D ca s) (hL : gL D ca I a xs) (cw : CallW R s args own RJ2 index yJ2_size cJ2_size 1 (some .int) (ws_ yJ2_size cJ2_size 1 (some .int)) rmJ2_size 0 0 0) (hr : (rest.map fun v => v.category).sum ≤ 8) (hf : cells ≤ R.cells ∧ slots ≤ R.slots) (hdg : decode cc pc = .ok (.invokevirtual index, 3)) (kk : gx_W p l e R s m args below meth c nL I cells slots Q (pc + 3) lv (.int (nI xs.length) :: rest)) : gx_W p l e R s m args below meth c nL I cells slots Q pc lv (.ref a :: rest) := by
  intro H locs ls hI hL2
  obtain ⟨t0, cap, Z, hz, hP⟩ := hL H locs hI
  obtain ⟨md, e0, hc⟩ := al_cell hz hP
  refine vp_callSi (W.runV (As := []) (b := a) C.1 (rk_J2_size (D := D) (ca := ca) (a := a) (md := md) (e0 := e0) (n := nI xs.length) (Q := fun r => r = nI xs.length) rfl) cw ?_ rfl rfl hL2.1 rfl (lv_room hr) hdg hf) (fun r h => by subst h; exact kk H locs ls hI hL2)
  exact ro_pre (I := fun H' _ => H' = H) (q := (RJ2, TJ2, 3)) hK (ci := 8) rfl (fun H' _ e => by rw [e]; exact hc) (fun H' _ e => by rw [e]; exact va_P.one hc) H [] rfl
theorem al_rget {index : Nat} {i : Int32} (C : gx_C p s m args meth c cc nL ret own) (hK : gK D ca s) (hL : gL D ca I a xs) (hin : vp_in i xs.length) (cw : CallW R s args own RJ2 index yJ2_get cJ2_get 2 (some (.object "java/lang/Object")) (ws_ yJ2_get cJ2_get 2 (some (.object "java/lang/Object"))) rmJ2_get 0 0 1) (hr : (rest.map fun v => v.category).sum ≤ 8) (hf : cells ≤ R.cells ∧ slots ≤ R.slots) (hdg : decode cc pc = .ok (.invokevirtual index, 3)) (kk : ∀ o, o = xs.getD i.toNatClampNeg 0 → gx_W p l e R s m args below meth c nL I cells slots Q (pc + 3) lv (.ref o :: rest)) : gx_W p l e R s m args below meth c nL I cells slots Q pc lv (.int i :: .ref a :: rest) := by
  intro H locs ls hI hL2
  obtain ⟨t0, cap, Z, hz, hP⟩ := hL H locs hI
  have hl : i.toNatClampNeg < xs.length := Nat.not_le.mp fun q => hin (Or.inr q)
  obtain ⟨md, e0, f, h1, h2, h3, hP2⟩ := al_arr hz hP (Nat.lt_of_le_of_lt (Nat.zero_le _) hl)
  have h0 : ¬ i < 0 := fun q => hin (Or.inl q)
  have hw : rw_J2_get (nI xs.length) cap f i (fun r => r = some (xs.getD i.toNatClampNeg 0)) := by
    obtain ⟨j, hj, rfl⟩ := vp_in_of hin (by omega)
    rw [nI_clamp (by omega)]
    refine ⟨fun z => absurd z h0, fun _ => ⟨fun _ => ⟨vp_in_nI (by omega) (by omega), ?_⟩, fun z => absurd (nI_lt hj (by omega)) z⟩⟩
    rw [nI_clamp (by omega)]
    exact h3 j hj
  refine va_csq (W.runV (As := [.int i]) (b := a) C.1 (rk_J2_get (D := D) (ca := ca) (a := a) (md := md) (e0 := e0) hw) cw ?_ rfl rfl hL2.1 rfl (lv_room hr) hdg hf) (fun r h => by subst h; exact kk _ rfl H locs ls hI hL2)
  exact ro_pre (I := fun H' _ => H' = H) (q := (RJ2, TJ2, 3)) hK (ci := 8) rfl (fun H' _ e => by rw [e]; exact hP2 0 _ rfl) (fun H' _ e => by rw [e]; exact hP2) H [] rfl
theorem al_rempty {index : Nat} (C : gx_C p s m args meth c cc nL ret own) (hK : gK D ca s) (hL : gL D ca I a xs) (cw : CallW R s args own RJ2 index yJ2_isEmpty cJ2_isEmpty 1 (some .boolean) (ws_ yJ2_isEmpty cJ2_isEmpty 1 (some .boolean)) rmJ2_isEmpty 0 0 0) (hr : (rest.map fun v => v.category).sum ≤ 8) (hf : cells ≤ R.cells ∧ slots ≤ R.slots) (hdg : decode cc pc = .ok (.invokevirtual index, 3)) (kk : gx_W p l e R s m args below meth c nL I cells slots Q (pc + 3) lv (.int (if nI xs.length = 0 then 1 else 0) :: rest)) : gx_W p l e R s m args below meth c nL I cells slots Q pc lv (.ref a :: rest) := by
  intro H locs ls hI hL2
  obtain ⟨t0, cap, Z, hz, hP⟩ := hL H locs hI
  obtain ⟨md, e0, hc⟩ := al_cell hz hP
  refine vp_callSi (W.runV (As := []) (b := a) C.1 (rk_J2_isEmpty (D := D) (ca := ca) (a := a) (md := md) (e0 := e0) (n := nI xs.length) (Q := fun r => r = if nI xs.length = 0 then 1 else 0) rfl) cw ?_ rfl rfl hL2.1 rfl (lv_room hr) hdg hf) (fun r h => by subst h; exact kk H locs ls hI hL2)
  exact ro_pre (I := fun H' _ => H' = H) (q := (RJ2, TJ2, 3)) hK (ci := 8) rfl (fun H' _ e => by rw [e]; exact hc) (fun H' _ e => by rw [e]; exact va_P.one hc) H [] rfl
theorem lm_Zin {Z : va_W} {H : Heap} (hP : va_P D gcl (lm_ws g ca L Z ++ X) H) : va_P D gcl Z H := hP.l.r.r.r.r
theorem ll_ol : gL D ca (lm_I D t0 g ca A s L X) (g 8) (ls_ow L) := by
  rintro H locs ⟨Z, ⟨Zo, Zb, Zm, rfl, h1, -, -⟩, hP, -⟩
  exact ⟨_, _, _, h1, (lm_Zin hP).l⟩
theorem ll_bl : gL D ca (lm_I D t0 g ca A s L X) (g 6) (ls_bx L) := by
  rintro H locs ⟨Z, ⟨Zo, Zb, Zm, rfl, -, ⟨cb, -, h1⟩, -⟩, hP, -⟩
  exact ⟨_, _, _, h1, (lm_Zin hP).r.l⟩
theorem lm_name {L0 : LSt} (kk : ∀ L', L' = L0 → gx_W p l e R s m args below meth c nL (lm_I D t0 g ca A s L' X) cells slots Q pc lv rest) : gx_W p l e R s m args below meth c nL (lm_I D t0 g ca A s L0 X) cells slots Q pc lv rest := kk _ rfl
theorem lm_bws {b : Nat} (hb : b ∈ ls_bx L) : ∀ H locs, lm_I D t0 g ca A s L X H locs → va_P D gcl [(b, .inr (4, [.int (ls_bs L b), .ref (ls_ba L b), .long (ls_bg L b)])), (ls_ba L b, .inl (ca 0, 2, .inl (ls_br L b)))] H := by
  intro H locs hI k q hk
  match k, hk with
  | 0, hk => cases hk; exact ll_Hb hb H locs hI
  | 1, hk => cases hk; exact ll_Hr hb H locs hI
theorem lm_ows {o : Nat} (ho : o ∈ ls_ow L) : ∀ H locs, lm_I D t0 g ca A s L X H locs → va_P D gcl [(o, .inr (5, [.int (ls_of L 0 o), .int (ls_of L 1 o), .int (ls_of L 2 o), .int (ls_of L 3 o), .int (ls_of L 4 o), .int (ls_of L 5 o), .int (ls_of L 6 o)]))] H := by
  intro H locs hI k q hk
  match k, hk with
  | 0, hk => cases hk; exact ll_Ho ho H locs hI
theorem al_pre {Z : va_W} {xs : List Nat} {cap : Nat} {As : List Value} {H : Heap} (hK : gK D ca s) (hz : alZ t0 a ca xs cap Z) (hP : va_P D gcl Z H) (hD : va_D A Z) : PreV s H RJ2 a (va_Pc (.ref a :: As) (al_P D ca Z H.size)) As := by
  obtain ⟨md, e0, hc⟩ := al_cell hz hP
  exact ⟨fun a' U gg mk z => ⟨z.1, z.2.1, z.2.2.1, z.2.2.2.1, gK.same (U := U.calling gg mk a') rfl z.2.2.2.2⟩, gw_recv (q := (RJ2, TJ2, 3)) hK (ci := 8) rfl hc, fun U hU hW => ⟨rfl, by rw [hU], by rw [hU]; exact hP, hD.weaken (fun _ _ _ _ => trivial), hK.moved hW⟩⟩
theorem lm_orem {index : Nat} {i : Int32} (C : gx_C p s m args meth c cc nL ret own) (hK : gK D ca s) (hG : gZ t0 A s) (hA : ∀ q, s.heap.size ≤ q → A q) (hin : vp_in i (ls_ow L).length) (cw : CallW R s args own RJ2 index yJ2_remove cJ2_remove 4 (some (.object "java/lang/Object")) (ws_ yJ2_remove cJ2_remove 4 (some (.object "java/lang/Object"))) rmJ2_remove 0 0 1) (hr : (rest.map fun v => v.category).sum ≤ 8) (hf : cells ≤ R.cells ∧ slots ≤ R.slots) (hdg : decode cc pc = .ok (.invokevirtual index, 3)) (kk : ∀ o, gx_W p l e R s m args below meth c nL (lm_I D t0 g ca A s (ls_rm L i) X) cells slots Q (pc + 3) lv (.ref o :: rest)) : gx_W p l e R s m args below meth c nL (lm_I D t0 g ca A s L X) cells slots Q pc lv (.int i :: .ref (g 8) :: rest) := by
  rintro H locs ls ⟨Z, ⟨Zo, Zb, Zm, rfl, hzo, hzb, hzm⟩, hP, hD, hS⟩ hL
  have he : lm_ws g ca L (Zo ++ (Zb ++ Zm)) ++ X = (lf_ws g ca L ++ (lo_ws L ++ (lb_ws L ++ lr_ws ca L))) ++ (Zo ++ ((Zb ++ Zm) ++ X)) := by simp [lm_ws, List.append_assoc]
  rw [he] at hP hD
  have hup := va_A_sub (D := D) (cl := gcl) hD hA hS
  refine va_callr (A1 := va_A Zo H.size) (A0 := A) (va_runV (As := [.int i]) (b := g 8) C.1 (jk_J2_remove (D := D) (ca := ca) hzo hin) cw (al_pre hK hzo hP.r.l hD.r.l) rfl rfl hL.1 rfl (lv_room hr) hdg hf) hS (fun q _ h => hup q h) hup (fun u o t H1 locs1 ht hvm hw hB hz hk hS1 => ?_)
  obtain ⟨-, Zo', hzo', hP1, hD1⟩ := hB
  rw [ht] at hP1
  obtain ⟨hP2, hD2⟩ := w_joinM hP hD hup hk hP1 hD1
  have hsub : (lm_ws g ca (ls_rm L i) (Zo' ++ (Zb ++ Zm)) ++ X).Sublist ((lf_ws g ca L ++ (lo_ws L ++ (lb_ws L ++ lr_ws ca L))) ++ (Zo' ++ ((Zb ++ Zm) ++ X))) := by
    have h1 : (lo_ws (ls_rm L i)).Sublist (lo_ws L) := (List.eraseIdx_sublist _ _).map _
    have h2 : lm_ws g ca (ls_rm L i) (Zo' ++ (Zb ++ Zm)) ++ X = (lf_ws g ca L ++ (lo_ws (ls_rm L i) ++ (lb_ws L ++ lr_ws ca L))) ++ (Zo' ++ ((Zb ++ Zm) ++ X)) := by
      rw [show lm_ws g ca (ls_rm L i) (Zo' ++ (Zb ++ Zm)) = lf_ws g ca L ++ (lo_ws (ls_rm L i) ++ (lb_ws L ++ (lr_ws ca L ++ (Zo' ++ (Zb ++ Zm))))) from rfl]
      simp [List.append_assoc]
    rw [h2]
    exact List.Sublist.append (List.Sublist.append (List.Sublist.refl _) (List.Sublist.append h1 (List.Sublist.refl _))) (List.Sublist.refl _)
  exact kk o H1 locs1 ls ⟨Zo' ++ (Zb ++ Zm), ⟨Zo', Zb, Zm, rfl, hzo', hzb, hzm⟩, hP2.sublist hsub, hD2.sublist hsub, hS1⟩ hL
end LN
