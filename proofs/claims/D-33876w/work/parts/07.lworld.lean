/-! The component's world: one Land and all that belongs to it, by an abstract state LSt -/
set_option maxRecDepth 100000
set_option maxHeartbeats 4000000
def gtys (c : Nat → ClassId) : List (ClassId × FieldType) := [(c 0, .int), (c 1, .long), (c 2, .boolean), (c 3, .object "java/lang/Object"), (c 4, .object "java/util/HashMap$Node"), (c 5, .byte)]
/-- the words that don't ride in the lists, whichever the tables have -/
def gNW (U : State) : Prop := (∀ a i b n d h, Cond.fieldLinkNest a i b n d h ∈ lw_tbl → va_Nw (.fieldLinkNest a i b n d h) U) ∧ (∀ a i x h, Cond.methodLinkNest a i x h ∈ lw_tbl → va_Nw (.methodLinkNest a i x h) U) ∧ (∀ C T, Cond.castable C T ∈ lw_tbl → va_Nw (.castable C T) U) ∧ (∀ x, Cond.declares x ∈ lw_tbl → va_Nw (.declares x) U) ∧ va_AO "java/lang/Object" U ∧ va_AO "java/util/HashMap$Node" U
theorem gNW.moved {s U : State} (hW : s.WarmedH U.vm) (h : gNW s) : gNW U :=
  ⟨fun a i b n d x w => (h.1 a i b n d x w).warmF hW, fun a i x y w => (h.2.1 a i x y w).warmM hW, fun C T w => (h.2.2.1 C T w).warmC hW, fun x w => (h.2.2.2.1 x w).warmD hW, h.2.2.2.2.1.moved hW.alike, h.2.2.2.2.2.moved hW.alike⟩
theorem gNW.same {s U : State} (hW : s.vm = U.vm) (h : gNW s) : gNW U :=
  ⟨fun a i b n d x w => (h.1 a i b n d x w).same rfl hW, fun a i x y w => (h.2.1 a i x y w).same rfl hW, fun C T w => (h.2.2.1 C T w).same rfl hW, fun x w => (h.2.2.2.1 x w).same rfl hW, h.2.2.2.2.1.moved (hW ▸ Vm.Alike.refl _), h.2.2.2.2.2.moved (hW ▸ Vm.Alike.refl _)⟩
def gK (D : va_G) (c : Nat → ClassId) (U : State) : Prop := va_K D gcl (gtys c) U ∧ gNW U
theorem gK.moved {D : va_G} {c : Nat → ClassId} {s U : State} (hW : s.WarmedH U.vm) (h : gK D c s) : gK D c U := ⟨va_K.moved hW.alike h.1, h.2.moved hW⟩
theorem gK.same {D : va_G} {c : Nat → ClassId} {s U : State} (hW : s.vm = U.vm) (h : gK D c s) : gK D c U := ⟨va_K.moved (hW ▸ Vm.Alike.refl _) h.1, h.2.same hW⟩
/-- what statics hold, that nobody writes: ArrayList's empty array t0 -/
def gZ (t0 : Nat) (A : Nat → Prop) (U : State) : Prop := va_Z "java/util/ArrayList" "DEFAULTCAPACITY_EMPTY_ELEMENTDATA" "[Ljava/lang/Object;" (.ref t0) A U U.heap ∧ va_T (.object "java/lang/Object") t0 0 (fun _ => .null) A U U.heap ∧ va_Z "java/lang/String" "COMPACT_STRINGS" "Z" (.int 1) A U U.heap
/-- carried to a callee's start: a later heap, a smaller part that may be written -/
theorem gZ.at {t0 : Nat} {A B : Nat → Prop} {s U : State} {H : Heap} {locs : List Loc} (h : gZ t0 A s) (hW : s.vm.Alike U.vm) (hU : U.heap = H) (hS : va_S A s.heap H locs) (hB : ∀ q, B q → A q) : gZ t0 B U := by
  subst hU
  exact ⟨(((h.1.kept hS.2.1).narrow hB).moved hW), (((h.2.1.kept hS.2.1).narrow hB).moved hW), (((h.2.2.kept hS.2.1).narrow hB).moved hW)⟩
theorem gZ.same {t0 : Nat} {A : Nat → Prop} {s U : State} (h : gZ t0 A s) (hW : s.vm = U.vm) (hU : U.heap = s.heap) : gZ t0 A U := by
  have a : s.vm.Alike U.vm := hW ▸ Vm.Alike.refl _
  unfold gZ
  rw [hU]
  exact ⟨h.1.moved a, h.2.1.moved a, h.2.2.moved a⟩
/-! lists of cells -/
def wset (ws : va_W) (a : Nat) (e : va_E) : va_W := ws.map (fun q => if q.1 = a then (a, e) else q)
theorem wset_app (l1 l2 : va_W) (a : Nat) (e : va_E) : wset (l1 ++ l2) a e = wset l1 a e ++ wset l2 a e := List.map_append
theorem wset_not {ws : va_W} {a : Nat} {e : va_E} (h : ∀ q ∈ ws, q.1 ≠ a) : wset ws a e = ws := by
  unfold wset
  conv => rhs; rw [← List.map_id ws]
  exact List.map_congr_left fun q hq => if_neg (h q hq)
theorem wset_cons_eq (a : Nat) (e0 e : va_E) (l : va_W) : wset ((a, e0) :: l) a e = (a, e) :: wset l a e := by simp [wset]
theorem wset_cons_ne {b a : Nat} (h : b ≠ a) (e0 e : va_E) (l : va_W) : wset ((b, e0) :: l) a e = (b, e0) :: wset l a e := by simp [wset, h]
theorem wset_pl {L : List Nat} {f f' : Nat → va_E} {a : Nat} {e : va_E} (h : f' a = e) (hn : ∀ b, b ≠ a → f' b = f b) : wset (va_pl L f) a e = va_pl L f' := by
  unfold wset va_pl
  rw [List.map_map]
  refine List.map_congr_left fun b _ => ?_
  by_cases hb : b = a
  · subst hb; simp [h]
  · simp [hb, hn b hb]
theorem wset_of {A : Nat → Prop} {ws : va_W} {k a : Nat} {e0 e : va_E} (hD : va_D A ws) (hk : ws[k]? = some (a, e0)) : ws.set k (a, e) = wset ws a e := by
  refine List.ext_getElem? fun i => ?_
  unfold wset
  rw [List.getElem?_map]
  by_cases hi : i = k
  · subst hi
    rw [List.getElem?_set_self (List.getElem?_eq_some_iff.mp hk).1, hk]
    simp
  · rw [List.getElem?_set_ne (Ne.symm hi)]
    cases hq : ws[i]? with
    | none => rfl
    | some q =>
      have : q.1 ≠ a := fun z => hi (hD.1 i k q (a, e0) hq hk z)
      simp [this]
theorem va_D.nd {A : Nat → Prop} {w1 w2 : va_W} (h : va_D A (w1 ++ w2)) : ∀ p ∈ w1, ∀ q ∈ w2, p.1 ≠ q.1 := by
  intro p hp q hq z
  obtain ⟨i, hi⟩ := List.getElem?_of_mem hp
  obtain ⟨j, hj⟩ := List.getElem?_of_mem hq
  have hl := (List.getElem?_eq_some_iff.mp hi).1
  have := h.1 i (w1.length + j) p q (by rw [List.getElem?_append_left hl]; exact hi) (by rw [List.getElem?_append_right (Nat.le_add_right _ _), Nat.add_sub_cancel_left]; exact hj) z
  omega
theorem va_D.l {A : Nat → Prop} {w1 w2 : va_W} (h : va_D A (w1 ++ w2)) : va_D A w1 := by
  refine ⟨fun i j p q hi hj z => h.1 i j p q ?_ ?_ z, fun k q hk => h.2 k q ?_⟩
  · rw [List.getElem?_append_left (List.getElem?_eq_some_iff.mp hi).1]; exact hi
  · rw [List.getElem?_append_left (List.getElem?_eq_some_iff.mp hj).1]; exact hj
  · rw [List.getElem?_append_left (List.getElem?_eq_some_iff.mp hk).1]; exact hk
theorem va_D.r {A : Nat → Prop} {w1 w2 : va_W} (h : va_D A (w1 ++ w2)) : va_D A w2 := by
  refine ⟨fun i j p q hi hj z => ?_, fun k q hk => h.2 (w1.length + k) q ?_⟩
  · have := h.1 (w1.length + i) (w1.length + j) p q (by rw [List.getElem?_append_right (Nat.le_add_right _ _), Nat.add_sub_cancel_left]; exact hi) (by rw [List.getElem?_append_right (Nat.le_add_right _ _), Nat.add_sub_cancel_left]; exact hj) z
    omega
  · rw [List.getElem?_append_right (Nat.le_add_right _ _), Nat.add_sub_cancel_left]; exact hk
theorem va_D.mem {A : Nat → Prop} {ws : va_W} (h : va_D A ws) {q : Nat × va_E} (hq : q ∈ ws) : A q.1 := by
  obtain ⟨i, hi⟩ := List.getElem?_of_mem hq
  exact h.2 i q hi
theorem va_P.mem {D : va_G} {cl : List vw_C} {ws : va_W} {H : Heap} (h : va_P D cl ws H) {q : Nat × va_E} (hq : q ∈ ws) : va_at D cl q H := by
  obtain ⟨i, hi⟩ := List.getElem?_of_mem hq
  exact h i q hi
theorem va_P.l {D : va_G} {cl : List vw_C} {w1 w2 : va_W} {H : Heap} (h : va_P D cl (w1 ++ w2) H) : va_P D cl w1 H := fun k q hk => h k q (by rw [List.getElem?_append_left (List.getElem?_eq_some_iff.mp hk).1]; exact hk)
theorem va_P.r {D : va_G} {cl : List vw_C} {w1 w2 : va_W} {H : Heap} (h : va_P D cl (w1 ++ w2) H) : va_P D cl w2 H := fun k q hk => h (w1.length + k) q (by rw [List.getElem?_append_right (Nat.le_add_right _ _), Nat.add_sub_cancel_left]; exact hk)
theorem va_P.one {D : va_G} {cl : List vw_C} {q : Nat × va_E} {H : Heap} (h : va_at D cl q H) : va_P D cl [q] H := fun k x hk => by
  have : x = q := by have := List.mem_of_getElem? hk; simpa using this
  subst this; exact h
/-- a callee's part w1 comes back as w1', the rest w2 is untouched -/
theorem w_join {A0 : Nat → Prop} {D : va_G} {cl : List vw_C} {w1 w1' w2 : va_W} {H H1 : Heap} (hP : va_P D cl (w1 ++ w2) H) (hD : va_D A0 (w1 ++ w2)) (hA : ∀ q, va_A w1 H.size q → A0 q) (hk : ∀ q : Nat, q < H.size → ¬ va_A w1 H.size q → H1[q]? = H[q]?) (hP1 : va_P D cl w1' H1) (hD1 : va_D (va_A w1 H.size) w1') : va_P D cl (w1' ++ w2) H1 ∧ va_D A0 (w1' ++ w2) := by
  have apart : ∀ q ∈ w2, q.1 < H.size ∧ ¬ va_A w1 H.size q.1 := by
    intro q hq
    have hl := (hP.r.mem hq).lt
    refine ⟨hl, fun h => ?_⟩
    rcases h with ⟨k, e, h⟩ | h
    · exact hD.nd _ (List.mem_of_getElem? h) q hq rfl
    · omega
  refine ⟨va_P.app hP1 (hP.r.kept fun k q hq => ?_), va_D.app (hD1.weaken fun _ q _ h => hA _ h) hD.r fun i j p q hi hj hpq => ?_⟩
  · have := apart q (List.mem_of_getElem? hq)
    exact hk _ this.1 this.2
  · have h1 := hD1.2 i p hi
    have h2 := apart q (List.mem_of_getElem? hj)
    rw [hpq] at h1
    exact h2.2 h1
/-! the Land's state -/
/-- 1 whole-number fields by their slot, 2 int arrays (0 kinds, 1 voles, 2 crowds, 3 log, 4 died), 3 owls, 4 an owl's fields, 5 places of the owls' list, 6 boxes, 7 a box's square, 8 its rings' address, 9 its rings by sex, 10 its range -/
abbrev LSt : Type := (Nat → Int32) × (Nat → Nat → Int32) × List Nat × (Nat → Nat → Int32) × Nat × List Nat × (Nat → Int32) × (Nat → Nat) × (Nat → Nat → Int32) × (Nat → Int64)
abbrev ls_sc (L : LSt) : Nat → Int32 := L.1
abbrev ls_ar (L : LSt) : Nat → Nat → Int32 := L.2.1
abbrev ls_ow (L : LSt) : List Nat := L.2.2.1
abbrev ls_of (L : LSt) : Nat → Nat → Int32 := L.2.2.2.1
abbrev ls_oc (L : LSt) : Nat := L.2.2.2.2.1
abbrev ls_bx (L : LSt) : List Nat := L.2.2.2.2.2.1
abbrev ls_bs (L : LSt) : Nat → Int32 := L.2.2.2.2.2.2.1
abbrev ls_ba (L : LSt) : Nat → Nat := L.2.2.2.2.2.2.2.1
abbrev ls_br (L : LSt) : Nat → Nat → Int32 := L.2.2.2.2.2.2.2.2.1
abbrev ls_bg (L : LSt) : Nat → Int64 := L.2.2.2.2.2.2.2.2.2
abbrev ls_r (L : LSt) (j : Nat) (i : Int32) : Int32 := ls_ar L j i.toNatClampNeg
def ls_s (L : LSt) (k : Nat) (v : Int32) : LSt := (upd L.1 k v, L.2)
def ls_a (L : LSt) (j : Nat) (i v : Int32) : LSt := (L.1, va_up L.2.1 j (upd (L.2.1 j) i.toNatClampNeg v), L.2.2)
def ls_o (L : LSt) (k o : Nat) (v : Int32) : LSt := (L.1, L.2.1, L.2.2.1, va_up L.2.2.2.1 k (upd (L.2.2.2.1 k) o v), L.2.2.2.2)
def ls_g (L : LSt) (b : Nat) (v : Int64) : LSt := (L.1, L.2.1, L.2.2.1, L.2.2.2.1, L.2.2.2.2.1, L.2.2.2.2.2.1, L.2.2.2.2.2.2.1, L.2.2.2.2.2.2.2.1, L.2.2.2.2.2.2.2.2.1, vp_updL L.2.2.2.2.2.2.2.2.2 b v)
def ls_b (L : LSt) (b : Nat) (i v : Int32) : LSt := (L.1, L.2.1, L.2.2.1, L.2.2.2.1, L.2.2.2.2.1, L.2.2.2.2.2.1, L.2.2.2.2.2.2.1, L.2.2.2.2.2.2.2.1, va_up L.2.2.2.2.2.2.2.2.1 b (upd (L.2.2.2.2.2.2.2.2.1 b) i.toNatClampNeg v), L.2.2.2.2.2.2.2.2.2)
def ls_fs (g : Nat → Nat) (L : LSt) : List Value := [.ref (g 1), .ref (g 2), .ref (g 3), .ref (g 6), .ref (g 7), .ref (g 8), .ref (g 4), .ref (g 5), .int (L.1 8), .int (L.1 9), .int (L.1 10), .int (L.1 11), .int (L.1 12), .int (L.1 13), .int (L.1 14), .int (L.1 15), .int (L.1 16), .int (L.1 17)]
def lo_fs (L : LSt) (o : Nat) : List Value := [.int (ls_of L 0 o), .int (ls_of L 1 o), .int (ls_of L 2 o), .int (ls_of L 3 o), .int (ls_of L 4 o), .int (ls_of L 5 o), .int (ls_of L 6 o)]
def lb_fs (L : LSt) (b : Nat) : List Value := [.int (ls_bs L b), .ref (ls_ba L b), .long (ls_bg L b)]
def lf_ws (g : Nat → Nat) (c : Nat → ClassId) (L : LSt) : va_W := [(g 0, .inr (2, ls_fs g L)), (g 1, .inl (c 0, 64, .inl (L.2.1 0))), (g 2, .inl (c 0, 64, .inl (L.2.1 1))), (g 3, .inl (c 0, 64, .inl (L.2.1 2))), (g 4, .inl (c 0, 60, .inl (L.2.1 3))), (g 5, .inl (c 0, 4, .inl (L.2.1 4)))]
def lo_ws (L : LSt) : va_W := va_pl (ls_ow L) (fun o => .inr (5, lo_fs L o))
def lb_ws (L : LSt) : va_W := va_pl (ls_bx L) (fun b => .inr (4, lb_fs L b))
def lr_ws (c : Nat → ClassId) (L : LSt) : va_W := (ls_bx L).map (fun b => (ls_ba L b, .inl (c 0, 2, .inl (ls_br L b))))
/-- all cells of a Land: Z is what its lists and its map hold -/
def lm_ws (g : Nat → Nat) (c : Nat → ClassId) (L : LSt) (Z : va_W) : va_W := lf_ws g c L ++ (lo_ws L ++ (lb_ws L ++ (lr_ws c L ++ Z)))
