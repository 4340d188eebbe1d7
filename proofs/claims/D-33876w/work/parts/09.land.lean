/-! One Land's world: what a Land method finds, may do, leaves -/
set_option maxRecDepth 100000
set_option maxHeartbeats 4000000
/-- an ArrayList at a that holds xs in an array of cap places (0: the shared empty one, t0) -/
def alZ (t0 a : Nat) (ca : Nat → ClassId) (xs : List Nat) (cap : Nat) (Z : va_W) : Prop := ∃ (mod : Int32) (e : Nat) (f : Nat → Option Nat), xs.length ≤ cap ∧ cap < 65536 ∧ (∀ i, i < xs.length → f i = some (xs.getD i 0)) ∧ ((cap = 0 ∧ e = t0 ∧ Z = [(a, .inr (8, [.int mod, .ref e, .int (nI xs.length)]))]) ∨ (10 ≤ cap ∧ Z = [(a, .inr (8, [.int mod, .ref e, .int (nI xs.length)])), (e, .inl (ca 3, cap, .inr (.inr (.inr (.inr f)))))]))
/-- a bucket's nodes, one behind the other -/
def mp_ch (nh : Nat → Int32) (nk nv : Nat → Nat) : List Nat → va_W
  | [] => []
  | x :: l => (x, .inr (10, [.int (nh x), .ref (nk x), .ref (nv x), va_rf l.head?])) :: mp_ch nh nk nv l
def mp_ks (nh : Nat → Int32) (nk : Nat → Nat) (l : List Nat) : va_W := l.map (fun x => (nk x, .inr (3, [.int (nh x / 8), .int (nh x - nh x / 8 * 8)])))
/-- the map at a: each box bx under the spot of its square bs -/
def mpZ (a : Nat) (ca : Nat → ClassId) (bx : List Nat) (bs : Nat → Int32) (Z : va_W) : Prop := ∃ (mod : Int32), (∀ b ∈ bx, 0 ≤ bs b ∧ bs b < 64) ∧ (∀ b ∈ bx, ∀ b2 ∈ bx, bs b = bs b2 → b = b2) ∧ ((bx = [] ∧ Z = [(a, .inr (9, [.null, .null, .null, .null, .int 0, .int mod, .int 0, .float 0x3f400000]))]) ∨ ∃ (tb : Nat) (T : Nat → Option Nat) (ch : Nat → List Nat) (nh : Nat → Int32) (nk nv : Nat → Nat),
  (∀ j, j < 16 → T j = (ch j).head?) ∧ (∀ j, j < 16 → ∀ x ∈ ch j, nh x = bs (nv x) ∧ (nh x).toInt % 16 = j) ∧ (((List.range 16).flatMap ch).map nv).Perm bx ∧
  Z = [(a, .inr (9, [.null, .null, .ref tb, .null, .int (nI bx.length), .int mod, .int 12, .float 0x3f400000])), (tb, .inl (ca 4, 16, .inr (.inr (.inr (.inr T)))))] ++ ((List.range 16).flatMap (fun j => mp_ch nh nk nv (ch j)) ++ (List.range 16).flatMap (fun j => mp_ks nh nk (ch j))))
/-- what a Land's lists and map hold -/
def lhZ (t0 : Nat) (g : Nat → Nat) (ca : Nat → ClassId) (L : LSt) (Z : va_W) : Prop := ∃ Zo Zb Zm : va_W, Z = Zo ++ (Zb ++ Zm) ∧ alZ t0 (g 8) ca (ls_ow L) (ls_oc L) Zo ∧ (∃ cb, cb ≤ 10 ∧ alZ t0 (g 6) ca (ls_bx L) cb Zb) ∧ mpZ (g 7) ca (ls_bx L) (ls_bs L) Zm
theorem lhZ.congr {t0 : Nat} {g : Nat → Nat} {ca : Nat → ClassId} {L L' : LSt} {Z : va_W} (h : lhZ t0 g ca L Z) (h1 : ls_ow L' = ls_ow L) (h2 : ls_oc L' = ls_oc L) (h3 : ls_bx L' = ls_bx L) (h4 : ls_bs L' = ls_bs L) : lhZ t0 g ca L' Z := by
  unfold lhZ at h ⊢
  rw [h1, h2, h3, h4]; exact h
def lm_I (D : va_G) (t0 : Nat) (g : Nat → Nat) (ca : Nat → ClassId) (A : Nat → Prop) (s : State) (L : LSt) (X : va_W) (H : Heap) (locs : List Loc) : Prop := ∃ Z, lhZ t0 g ca L Z ∧ va_P D gcl (lm_ws g ca L Z ++ X) H ∧ va_D A (lm_ws g ca L Z ++ X) ∧ va_S A s.heap H locs
def lm_P (D : va_G) (t0 : Nat) (g : Nat → Nat) (ca : Nat → ClassId) (Z : va_W) (sz : Nat) (L : LSt) (U : State) : Prop := U.heap.size = sz ∧ lhZ t0 g ca L Z ∧ va_P D gcl (lm_ws g ca L Z) U.heap ∧ va_D (fun _ => True) (lm_ws g ca L Z) ∧ gK D ca U ∧ gZ t0 (va_A (lm_ws g ca L Z) sz) U
def lm_B (D : va_G) (t0 : Nat) (g : Nat → Nat) (ca : Nat → ClassId) (A : Nat → Prop) (L : LSt) (t : State) : Prop := ∃ Z, lhZ t0 g ca L Z ∧ va_P D gcl (lm_ws g ca L Z) t.heap ∧ va_D A (lm_ws g ca L Z)
abbrev lm_Met (l : Launch) (y : MethodName) (bytes : ByteArray) (maxL : Nat) (ret : Option FieldType) (rm : Room) (As : List Value) (D : va_G) (t0 : Nat) (g : Nat → Nat) (ca : Nat → ClassId) (Z : va_W) (sz : Nat) (L : LSt) (Qc : Array Value → State → Outcome → State → Prop) (mc ms : Nat) : Prop :=
  Met l y (ws_ y bytes maxL ret) rm (va_Pc (.ref (g 0) :: As) (lm_P D t0 g ca Z sz L)) Qc mc ms (va_A (lm_ws g ca L Z) sz)
theorem wset_mid {A : Nat → Prop} {w1 w2 : va_W} {a : Nat} {e0 e : va_E} (hD : va_D A (w1 ++ (a, e0) :: w2)) : wset (w1 ++ (a, e0) :: w2) a e = w1 ++ (a, e) :: w2 := by
  rw [wset_app, wset_cons_eq, wset_not (ws := w1) (fun q hq => hD.nd q hq (a, e0) List.mem_cons_self), wset_not (ws := w2) (fun q hq => ?_)]
  have h2 : va_D A ([(a, e0)] ++ w2) := hD.r
  exact fun z => h2.nd (a, e0) (by simp) q hq z.symm
theorem wset_pool {A : Nat → Prop} {w1 w2 : va_W} {P : List Nat} {f f' : Nat → va_E} {a : Nat} {e : va_E} (hD : va_D A (w1 ++ (va_pl P f ++ w2))) (ha : a ∈ P) (h : f' a = e) (hn : ∀ b, b ≠ a → f' b = f b) : wset (w1 ++ (va_pl P f ++ w2)) a e = w1 ++ (va_pl P f' ++ w2) := by
  have hm : (a, f a) ∈ va_pl P f := List.mem_map.mpr ⟨a, ha, rfl⟩
  rw [wset_app, wset_app, wset_pl h hn, wset_not (ws := w1) (fun q hq => hD.nd q hq (a, f a) (List.mem_append_left _ hm)), wset_not (ws := w2) (fun q hq z => hD.r.nd (a, f a) hm q hq z.symm)]
theorem wset_rings {A : Nat → Prop} {w1 w2 : va_W} {P : List Nat} {k : Nat → Nat} {f f' : Nat → va_E} {b : Nat} {e : va_E} (hD : va_D A (w1 ++ (P.map (fun b => (k b, f b)) ++ w2))) (hb : b ∈ P) (h : f' b = e) (hn : ∀ d, d ≠ b → f' d = f d) : wset (w1 ++ (P.map (fun b => (k b, f b)) ++ w2)) (k b) e = w1 ++ (P.map (fun b => (k b, f' b)) ++ w2) := by
  have hm : (k b, f b) ∈ P.map (fun b => (k b, f b)) := List.mem_map.mpr ⟨b, hb, rfl⟩
  rw [wset_app, wset_app, wset_not (ws := w1) (fun q hq => hD.nd q hq (k b, f b) (List.mem_append_left _ hm)), wset_not (ws := w2) (fun q hq z => hD.r.nd (k b, f b) hm q hq z.symm)]
  congr 2
  unfold wset
  rw [List.map_map]
  refine List.map_congr_left fun d hd => ?_
  by_cases hdb : d = b
  · subst hdb; simp [h]
  · have hne : k d ≠ k b := by
      intro z
      obtain ⟨i, hi⟩ := List.getElem?_of_mem hd
      obtain ⟨j, hj⟩ := List.getElem?_of_mem hb
      have hl : va_D A (P.map (fun b => (k b, f b))) := hD.r.l
      have := hl.1 i j (k d, f d) (k b, f b) (by rw [List.getElem?_map, hi]; rfl) (by rw [List.getElem?_map, hj]; rfl) z
      subst this
      exact hdb (Option.some.inj (hi.symm.trans hj))
    simp [hne, hn d hdb]
section LM
variable {p : Program} {l : Launch} {e : Env} {R : Room} {s : State} {m : MethodId} {args : Array Value} {below : List Frame} {meth : Method} {c : Code} {cc : ByteArray} {nL : Nat} {ret : Option FieldType} {own : String} {cells slots mc ms : Nat} {Q : State → Prop} {pc : Nat} {lv lv' : List (Nat × Value)} {rest : List Value} {D : va_G} {t0 : Nat} {g : Nat → Nat} {ca : Nat → ClassId} {A : Nat → Prop} {L : LSt} {X : va_W}
theorem ll_H0 : gH D (lm_I D t0 g ca A s L X) (g 0) (.inr (2, ls_fs g L)) := fun _ _ ⟨_, _, hP, _⟩ => hP 0 _ rfl
theorem ll_Ha0 : gH D (lm_I D t0 g ca A s L X) (g 1) (.inl (ca 0, 64, .inl (L.2.1 0))) := fun _ _ ⟨_, _, hP, _⟩ => hP 1 _ rfl
theorem ll_Ha1 : gH D (lm_I D t0 g ca A s L X) (g 2) (.inl (ca 0, 64, .inl (L.2.1 1))) := fun _ _ ⟨_, _, hP, _⟩ => hP 2 _ rfl
theorem ll_Ha2 : gH D (lm_I D t0 g ca A s L X) (g 3) (.inl (ca 0, 64, .inl (L.2.1 2))) := fun _ _ ⟨_, _, hP, _⟩ => hP 3 _ rfl
theorem ll_Ha3 : gH D (lm_I D t0 g ca A s L X) (g 4) (.inl (ca 0, 60, .inl (L.2.1 3))) := fun _ _ ⟨_, _, hP, _⟩ => hP 4 _ rfl
theorem ll_Ha4 : gH D (lm_I D t0 g ca A s L X) (g 5) (.inl (ca 0, 4, .inl (L.2.1 4))) := fun _ _ ⟨_, _, hP, _⟩ => hP 5 _ rfl
theorem ll_Ho {o : Nat} (h : o ∈ ls_ow L) : gH D (lm_I D t0 g ca A s L X) o (.inr (5, lo_fs L o)) := fun _ _ ⟨_, _, hP, _⟩ =>
  hP.l.r.mem (List.mem_append_left _ (List.mem_map.mpr ⟨o, h, rfl⟩))
theorem ll_Hb {b : Nat} (h : b ∈ ls_bx L) : gH D (lm_I D t0 g ca A s L X) b (.inr (4, lb_fs L b)) := fun _ _ ⟨_, _, hP, _⟩ =>
  hP.l.r.r.mem (List.mem_append_left _ (List.mem_map.mpr ⟨b, h, rfl⟩))
theorem ll_Hr {b : Nat} (h : b ∈ ls_bx L) : gH D (lm_I D t0 g ca A s L X) (ls_ba L b) (.inl (ca 0, 2, .inl (ls_br L b))) := fun _ _ ⟨_, _, hP, _⟩ =>
  hP.l.r.r.r.mem (List.mem_append_left _ (List.mem_map.mpr ⟨b, h, rfl⟩))
theorem ll_Us8 (v : Int32) : gU D (lm_I D t0 g ca A s L X) (g 0) (.inr (2, ls_fs g L)) (.inr (2, (ls_fs g L).set 8 (.int v))) (lm_I D t0 g ca A s (ls_s L 8 v) X) := by
  intro H locs ⟨Z, hZ, hP, hD, hS⟩
  have he : lm_ws g ca L Z ++ X = [] ++ (g 0, .inr (2, ls_fs g L)) :: ((lf_ws g ca L).tail ++ (lo_ws L ++ (lb_ws L ++ (lr_ws ca L ++ Z))) ++ X) := rfl
  rw [he] at hP hD
  refine ⟨_, A, _, hP, hD, hS, List.mem_cons_self, fun H1 locs1 hP1 hD1 hS1 => ⟨Z, hZ.congr rfl rfl rfl rfl, ?_, ?_, hS1⟩⟩
  · rw [wset_mid hD] at hP1; exact hP1
  · rw [wset_mid hD] at hD1; exact hD1
theorem ll_Us9 (v : Int32) : gU D (lm_I D t0 g ca A s L X) (g 0) (.inr (2, ls_fs g L)) (.inr (2, (ls_fs g L).set 9 (.int v))) (lm_I D t0 g ca A s (ls_s L 9 v) X) := by
  intro H locs ⟨Z, hZ, hP, hD, hS⟩
  have he : lm_ws g ca L Z ++ X = [] ++ (g 0, .inr (2, ls_fs g L)) :: ((lf_ws g ca L).tail ++ (lo_ws L ++ (lb_ws L ++ (lr_ws ca L ++ Z))) ++ X) := rfl
  rw [he] at hP hD
  refine ⟨_, A, _, hP, hD, hS, List.mem_cons_self, fun H1 locs1 hP1 hD1 hS1 => ⟨Z, hZ.congr rfl rfl rfl rfl, ?_, ?_, hS1⟩⟩
  · rw [wset_mid hD] at hP1; exact hP1
  · rw [wset_mid hD] at hD1; exact hD1
theorem ll_Us10 (v : Int32) : gU D (lm_I D t0 g ca A s L X) (g 0) (.inr (2, ls_fs g L)) (.inr (2, (ls_fs g L).set 10 (.int v))) (lm_I D t0 g ca A s (ls_s L 10 v) X) := by
  intro H locs ⟨Z, hZ, hP, hD, hS⟩
  have he : lm_ws g ca L Z ++ X = [] ++ (g 0, .inr (2, ls_fs g L)) :: ((lf_ws g ca L).tail ++ (lo_ws L ++ (lb_ws L ++ (lr_ws ca L ++ Z))) ++ X) := rfl
  rw [he] at hP hD
  refine ⟨_, A, _, hP, hD, hS, List.mem_cons_self, fun H1 locs1 hP1 hD1 hS1 => ⟨Z, hZ.congr rfl rfl rfl rfl, ?_, ?_, hS1⟩⟩
  · rw [wset_mid hD] at hP1; exact hP1
  · rw [wset_mid hD] at hD1; exact hD1
theorem ll_Us11 (v : Int32) : gU D (lm_I D t0 g ca A s L X) (g 0) (.inr (2, ls_fs g L)) (.inr (2, (ls_fs g L).set 11 (.int v))) (lm_I D t0 g ca A s (ls_s L 11 v) X) := by
  intro H locs ⟨Z, hZ, hP, hD, hS⟩
  have he : lm_ws g ca L Z ++ X = [] ++ (g 0, .inr (2, ls_fs g L)) :: ((lf_ws g ca L).tail ++ (lo_ws L ++ (lb_ws L ++ (lr_ws ca L ++ Z))) ++ X) := rfl
  rw [he] at hP hD
  refine ⟨_, A, _, hP, hD, hS, List.mem_cons_self, fun H1 locs1 hP1 hD1 hS1 => ⟨Z, hZ.congr rfl rfl rfl rfl, ?_, ?_, hS1⟩⟩
  · rw [wset_mid hD] at hP1; exact hP1
  · rw [wset_mid hD] at hD1; exact hD1
theorem ll_Us12 (v : Int32) : gU D (lm_I D t0 g ca A s L X) (g 0) (.inr (2, ls_fs g L)) (.inr (2, (ls_fs g L).set 12 (.int v))) (lm_I D t0 g ca A s (ls_s L 12 v) X) := by
  intro H locs ⟨Z, hZ, hP, hD, hS⟩
  have he : lm_ws g ca L Z ++ X = [] ++ (g 0, .inr (2, ls_fs g L)) :: ((lf_ws g ca L).tail ++ (lo_ws L ++ (lb_ws L ++ (lr_ws ca L ++ Z))) ++ X) := rfl
  rw [he] at hP hD
  refine ⟨_, A, _, hP, hD, hS, List.mem_cons_self, fun H1 locs1 hP1 hD1 hS1 => ⟨Z, hZ.congr rfl rfl rfl rfl, ?_, ?_, hS1⟩⟩
  · rw [wset_mid hD] at hP1; exact hP1
  · rw [wset_mid hD] at hD1; exact hD1
theorem ll_Us13 (v : Int32) : gU D (lm_I D t0 g ca A s L X) (g 0) (.inr (2, ls_fs g L)) (.inr (2, (ls_fs g L).set 13 (.int v))) (lm_I D t0 g ca A s (ls_s L 13 v) X) := by
  intro H locs ⟨Z, hZ, hP, hD, hS⟩
  have he : lm_ws g ca L Z ++ X = [] ++ (g 0, .inr (2, ls_fs g L)) :: ((lf_ws g ca L).tail ++ (lo_ws L ++ (lb_ws L ++ (lr_ws ca L ++ Z))) ++ X) := rfl
  rw [he] at hP hD
  refine ⟨_, A, _, hP, hD, hS, List.mem_cons_self, fun H1 locs1 hP1 hD1 hS1 => ⟨Z, hZ.congr rfl rfl rfl rfl, ?_, ?_, hS1⟩⟩
  · rw [wset_mid hD] at hP1; exact hP1
  · rw [wset_mid hD] at hD1; exact hD1
theorem ll_Us14 (v : Int32) : gU D (lm_I D t0 g ca A s L X) (g 0) (.inr (2, ls_fs g L)) (.inr (2, (ls_fs g L).set 14 (.int v))) (lm_I D t0 g ca A s (ls_s L 14 v) X) := by
  intro H locs ⟨Z, hZ, hP, hD, hS⟩
  have he : lm_ws g ca L Z ++ X = [] ++ (g 0, .inr (2, ls_fs g L)) :: ((lf_ws g ca L).tail ++ (lo_ws L ++ (lb_ws L ++ (lr_ws ca L ++ Z))) ++ X) := rfl
  rw [he] at hP hD
  refine ⟨_, A, _, hP, hD, hS, List.mem_cons_self, fun H1 locs1 hP1 hD1 hS1 => ⟨Z, hZ.congr rfl rfl rfl rfl, ?_, ?_, hS1⟩⟩
  · rw [wset_mid hD] at hP1; exact hP1
  · rw [wset_mid hD] at hD1; exact hD1
theorem ll_Us15 (v : Int32) : gU D (lm_I D t0 g ca A s L X) (g 0) (.inr (2, ls_fs g L)) (.inr (2, (ls_fs g L).set 15 (.int v))) (lm_I D t0 g ca A s (ls_s L 15 v) X) := by
  intro H locs ⟨Z, hZ, hP, hD, hS⟩
  have he : lm_ws g ca L Z ++ X = [] ++ (g 0, .inr (2, ls_fs g L)) :: ((lf_ws g ca L).tail ++ (lo_ws L ++ (lb_ws L ++ (lr_ws ca L ++ Z))) ++ X) := rfl
  rw [he] at hP hD
  refine ⟨_, A, _, hP, hD, hS, List.mem_cons_self, fun H1 locs1 hP1 hD1 hS1 => ⟨Z, hZ.congr rfl rfl rfl rfl, ?_, ?_, hS1⟩⟩
  · rw [wset_mid hD] at hP1; exact hP1
  · rw [wset_mid hD] at hD1; exact hD1
theorem ll_Us16 (v : Int32) : gU D (lm_I D t0 g ca A s L X) (g 0) (.inr (2, ls_fs g L)) (.inr (2, (ls_fs g L).set 16 (.int v))) (lm_I D t0 g ca A s (ls_s L 16 v) X) := by
  intro H locs ⟨Z, hZ, hP, hD, hS⟩
  have he : lm_ws g ca L Z ++ X = [] ++ (g 0, .inr (2, ls_fs g L)) :: ((lf_ws g ca L).tail ++ (lo_ws L ++ (lb_ws L ++ (lr_ws ca L ++ Z))) ++ X) := rfl
  rw [he] at hP hD
  refine ⟨_, A, _, hP, hD, hS, List.mem_cons_self, fun H1 locs1 hP1 hD1 hS1 => ⟨Z, hZ.congr rfl rfl rfl rfl, ?_, ?_, hS1⟩⟩
  · rw [wset_mid hD] at hP1; exact hP1
  · rw [wset_mid hD] at hD1; exact hD1
theorem ll_Us17 (v : Int32) : gU D (lm_I D t0 g ca A s L X) (g 0) (.inr (2, ls_fs g L)) (.inr (2, (ls_fs g L).set 17 (.int v))) (lm_I D t0 g ca A s (ls_s L 17 v) X) := by
  intro H locs ⟨Z, hZ, hP, hD, hS⟩
  have he : lm_ws g ca L Z ++ X = [] ++ (g 0, .inr (2, ls_fs g L)) :: ((lf_ws g ca L).tail ++ (lo_ws L ++ (lb_ws L ++ (lr_ws ca L ++ Z))) ++ X) := rfl
  rw [he] at hP hD
  refine ⟨_, A, _, hP, hD, hS, List.mem_cons_self, fun H1 locs1 hP1 hD1 hS1 => ⟨Z, hZ.congr rfl rfl rfl rfl, ?_, ?_, hS1⟩⟩
  · rw [wset_mid hD] at hP1; exact hP1
  · rw [wset_mid hD] at hD1; exact hD1
theorem ll_Ua0 (i v : Int32) : gU D (lm_I D t0 g ca A s L X) (g 1) (.inl (ca 0, 64, .inl (L.2.1 0))) (.inl (ca 0, 64, .inl (upd (L.2.1 0) i.toNatClampNeg v))) (lm_I D t0 g ca A s (ls_a L 0 i v) X) := by
  intro H locs ⟨Z, hZ, hP, hD, hS⟩
  have he : lm_ws g ca L Z ++ X = (lf_ws g ca L).take 1 ++ (g 1, .inl (ca 0, 64, .inl (L.2.1 0))) :: ((lf_ws g ca L).drop 2 ++ (lo_ws L ++ (lb_ws L ++ (lr_ws ca L ++ Z))) ++ X) := rfl
  rw [he] at hP hD
  refine ⟨_, A, _, hP, hD, hS, List.mem_append_right _ List.mem_cons_self, fun H1 locs1 hP1 hD1 hS1 => ⟨Z, hZ.congr rfl rfl rfl rfl, ?_, ?_, hS1⟩⟩
  · rw [wset_mid hD] at hP1; exact hP1
  · rw [wset_mid hD] at hD1; exact hD1
theorem ll_Ua1 (i v : Int32) : gU D (lm_I D t0 g ca A s L X) (g 2) (.inl (ca 0, 64, .inl (L.2.1 1))) (.inl (ca 0, 64, .inl (upd (L.2.1 1) i.toNatClampNeg v))) (lm_I D t0 g ca A s (ls_a L 1 i v) X) := by
  intro H locs ⟨Z, hZ, hP, hD, hS⟩
  have he : lm_ws g ca L Z ++ X = (lf_ws g ca L).take 2 ++ (g 2, .inl (ca 0, 64, .inl (L.2.1 1))) :: ((lf_ws g ca L).drop 3 ++ (lo_ws L ++ (lb_ws L ++ (lr_ws ca L ++ Z))) ++ X) := rfl
  rw [he] at hP hD
  refine ⟨_, A, _, hP, hD, hS, List.mem_append_right _ List.mem_cons_self, fun H1 locs1 hP1 hD1 hS1 => ⟨Z, hZ.congr rfl rfl rfl rfl, ?_, ?_, hS1⟩⟩
  · rw [wset_mid hD] at hP1; exact hP1
  · rw [wset_mid hD] at hD1; exact hD1
theorem ll_Ua2 (i v : Int32) : gU D (lm_I D t0 g ca A s L X) (g 3) (.inl (ca 0, 64, .inl (L.2.1 2))) (.inl (ca 0, 64, .inl (upd (L.2.1 2) i.toNatClampNeg v))) (lm_I D t0 g ca A s (ls_a L 2 i v) X) := by
  intro H locs ⟨Z, hZ, hP, hD, hS⟩
  have he : lm_ws g ca L Z ++ X = (lf_ws g ca L).take 3 ++ (g 3, .inl (ca 0, 64, .inl (L.2.1 2))) :: ((lf_ws g ca L).drop 4 ++ (lo_ws L ++ (lb_ws L ++ (lr_ws ca L ++ Z))) ++ X) := rfl
  rw [he] at hP hD
  refine ⟨_, A, _, hP, hD, hS, List.mem_append_right _ List.mem_cons_self, fun H1 locs1 hP1 hD1 hS1 => ⟨Z, hZ.congr rfl rfl rfl rfl, ?_, ?_, hS1⟩⟩
  · rw [wset_mid hD] at hP1; exact hP1
  · rw [wset_mid hD] at hD1; exact hD1
theorem ll_Ua3 (i v : Int32) : gU D (lm_I D t0 g ca A s L X) (g 4) (.inl (ca 0, 60, .inl (L.2.1 3))) (.inl (ca 0, 60, .inl (upd (L.2.1 3) i.toNatClampNeg v))) (lm_I D t0 g ca A s (ls_a L 3 i v) X) := by
  intro H locs ⟨Z, hZ, hP, hD, hS⟩
  have he : lm_ws g ca L Z ++ X = (lf_ws g ca L).take 4 ++ (g 4, .inl (ca 0, 60, .inl (L.2.1 3))) :: ((lf_ws g ca L).drop 5 ++ (lo_ws L ++ (lb_ws L ++ (lr_ws ca L ++ Z))) ++ X) := rfl
  rw [he] at hP hD
  refine ⟨_, A, _, hP, hD, hS, List.mem_append_right _ List.mem_cons_self, fun H1 locs1 hP1 hD1 hS1 => ⟨Z, hZ.congr rfl rfl rfl rfl, ?_, ?_, hS1⟩⟩
  · rw [wset_mid hD] at hP1; exact hP1
  · rw [wset_mid hD] at hD1; exact hD1
theorem ll_Ua4 (i v : Int32) : gU D (lm_I D t0 g ca A s L X) (g 5) (.inl (ca 0, 4, .inl (L.2.1 4))) (.inl (ca 0, 4, .inl (upd (L.2.1 4) i.toNatClampNeg v))) (lm_I D t0 g ca A s (ls_a L 4 i v) X) := by
  intro H locs ⟨Z, hZ, hP, hD, hS⟩
  have he : lm_ws g ca L Z ++ X = (lf_ws g ca L).take 5 ++ (g 5, .inl (ca 0, 4, .inl (L.2.1 4))) :: ((lf_ws g ca L).drop 6 ++ (lo_ws L ++ (lb_ws L ++ (lr_ws ca L ++ Z))) ++ X) := rfl
  rw [he] at hP hD
  refine ⟨_, A, _, hP, hD, hS, List.mem_append_right _ List.mem_cons_self, fun H1 locs1 hP1 hD1 hS1 => ⟨Z, hZ.congr rfl rfl rfl rfl, ?_, ?_, hS1⟩⟩
  · rw [wset_mid hD] at hP1; exact hP1
  · rw [wset_mid hD] at hD1; exact hD1
theorem ll_Uo0 {o : Nat} (v : Int32) (ho : o ∈ ls_ow L) : gU D (lm_I D t0 g ca A s L X) o (.inr (5, lo_fs L o)) (.inr (5, (lo_fs L o).set 0 (.int v))) (lm_I D t0 g ca A s (ls_o L 0 o v) X) := by
  intro H locs ⟨Z, hZ, hP, hD, hS⟩
  have he : lm_ws g ca L Z ++ X = lf_ws g ca L ++ (va_pl (ls_ow L) (fun o => .inr (5, lo_fs L o)) ++ ((lb_ws L ++ (lr_ws ca L ++ Z)) ++ X)) := by simp [lm_ws, lo_ws, List.append_assoc]
  have he2 : lm_ws g ca (ls_o L 0 o v) Z ++ X = lf_ws g ca L ++ (va_pl (ls_ow L) (fun q => .inr (5, lo_fs (ls_o L 0 o v) q)) ++ ((lb_ws L ++ (lr_ws ca L ++ Z)) ++ X)) := by
    rw [show lm_ws g ca (ls_o L 0 o v) Z = lf_ws g ca L ++ (va_pl (ls_ow L) (fun q => .inr (5, lo_fs (ls_o L 0 o v) q)) ++ (lb_ws L ++ (lr_ws ca L ++ Z))) from rfl]
    simp [List.append_assoc]
  have hf : ∀ q, q ≠ o → (fun q => (.inr (5, lo_fs (ls_o L 0 o v) q) : va_E)) q = (fun q => .inr (5, lo_fs L q)) q := by
    intro q hq
    simp [lo_fs, ls_of, ls_o, va_up, upd, hq]
  have hf2 : (fun q => (.inr (5, lo_fs (ls_o L 0 o v) q) : va_E)) o = .inr (5, (lo_fs L o).set 0 (.int v)) := by
    simp [lo_fs, ls_of, ls_o, va_up, upd]
  rw [he] at hP hD
  refine ⟨_, A, _, hP, hD, hS, List.mem_append_right _ (List.mem_append_left _ (List.mem_map.mpr ⟨o, ho, rfl⟩)), fun H1 locs1 hP1 hD1 hS1 => ⟨Z, hZ.congr rfl rfl rfl rfl, ?_, ?_, hS1⟩⟩
  · rw [wset_pool hD ho hf2 hf] at hP1; rw [he2]; exact hP1
  · rw [wset_pool hD ho hf2 hf] at hD1; rw [he2]; exact hD1
theorem ll_Uo1 {o : Nat} (v : Int32) (ho : o ∈ ls_ow L) : gU D (lm_I D t0 g ca A s L X) o (.inr (5, lo_fs L o)) (.inr (5, (lo_fs L o).set 1 (.int v))) (lm_I D t0 g ca A s (ls_o L 1 o v) X) := by
  intro H locs ⟨Z, hZ, hP, hD, hS⟩
  have he : lm_ws g ca L Z ++ X = lf_ws g ca L ++ (va_pl (ls_ow L) (fun o => .inr (5, lo_fs L o)) ++ ((lb_ws L ++ (lr_ws ca L ++ Z)) ++ X)) := by simp [lm_ws, lo_ws, List.append_assoc]
  have he2 : lm_ws g ca (ls_o L 1 o v) Z ++ X = lf_ws g ca L ++ (va_pl (ls_ow L) (fun q => .inr (5, lo_fs (ls_o L 1 o v) q)) ++ ((lb_ws L ++ (lr_ws ca L ++ Z)) ++ X)) := by
    rw [show lm_ws g ca (ls_o L 1 o v) Z = lf_ws g ca L ++ (va_pl (ls_ow L) (fun q => .inr (5, lo_fs (ls_o L 1 o v) q)) ++ (lb_ws L ++ (lr_ws ca L ++ Z))) from rfl]
    simp [List.append_assoc]
  have hf : ∀ q, q ≠ o → (fun q => (.inr (5, lo_fs (ls_o L 1 o v) q) : va_E)) q = (fun q => .inr (5, lo_fs L q)) q := by
    intro q hq
    simp [lo_fs, ls_of, ls_o, va_up, upd, hq]
  have hf2 : (fun q => (.inr (5, lo_fs (ls_o L 1 o v) q) : va_E)) o = .inr (5, (lo_fs L o).set 1 (.int v)) := by
    simp [lo_fs, ls_of, ls_o, va_up, upd]
  rw [he] at hP hD
  refine ⟨_, A, _, hP, hD, hS, List.mem_append_right _ (List.mem_append_left _ (List.mem_map.mpr ⟨o, ho, rfl⟩)), fun H1 locs1 hP1 hD1 hS1 => ⟨Z, hZ.congr rfl rfl rfl rfl, ?_, ?_, hS1⟩⟩
  · rw [wset_pool hD ho hf2 hf] at hP1; rw [he2]; exact hP1
  · rw [wset_pool hD ho hf2 hf] at hD1; rw [he2]; exact hD1
theorem ll_Uo2 {o : Nat} (v : Int32) (ho : o ∈ ls_ow L) : gU D (lm_I D t0 g ca A s L X) o (.inr (5, lo_fs L o)) (.inr (5, (lo_fs L o).set 2 (.int v))) (lm_I D t0 g ca A s (ls_o L 2 o v) X) := by
  intro H locs ⟨Z, hZ, hP, hD, hS⟩
  have he : lm_ws g ca L Z ++ X = lf_ws g ca L ++ (va_pl (ls_ow L) (fun o => .inr (5, lo_fs L o)) ++ ((lb_ws L ++ (lr_ws ca L ++ Z)) ++ X)) := by simp [lm_ws, lo_ws, List.append_assoc]
  have he2 : lm_ws g ca (ls_o L 2 o v) Z ++ X = lf_ws g ca L ++ (va_pl (ls_ow L) (fun q => .inr (5, lo_fs (ls_o L 2 o v) q)) ++ ((lb_ws L ++ (lr_ws ca L ++ Z)) ++ X)) := by
    rw [show lm_ws g ca (ls_o L 2 o v) Z = lf_ws g ca L ++ (va_pl (ls_ow L) (fun q => .inr (5, lo_fs (ls_o L 2 o v) q)) ++ (lb_ws L ++ (lr_ws ca L ++ Z))) from rfl]
    simp [List.append_assoc]
  have hf : ∀ q, q ≠ o → (fun q => (.inr (5, lo_fs (ls_o L 2 o v) q) : va_E)) q = (fun q => .inr (5, lo_fs L q)) q := by
    intro q hq
    simp [lo_fs, ls_of, ls_o, va_up, upd, hq]
  have hf2 : (fun q => (.inr (5, lo_fs (ls_o L 2 o v) q) : va_E)) o = .inr (5, (lo_fs L o).set 2 (.int v)) := by
    simp [lo_fs, ls_of, ls_o, va_up, upd]
  rw [he] at hP hD
  refine ⟨_, A, _, hP, hD, hS, List.mem_append_right _ (List.mem_append_left _ (List.mem_map.mpr ⟨o, ho, rfl⟩)), fun H1 locs1 hP1 hD1 hS1 => ⟨Z, hZ.congr rfl rfl rfl rfl, ?_, ?_, hS1⟩⟩
  · rw [wset_pool hD ho hf2 hf] at hP1; rw [he2]; exact hP1
  · rw [wset_pool hD ho hf2 hf] at hD1; rw [he2]; exact hD1
theorem ll_Uo3 {o : Nat} (v : Int32) (ho : o ∈ ls_ow L) : gU D (lm_I D t0 g ca A s L X) o (.inr (5, lo_fs L o)) (.inr (5, (lo_fs L o).set 3 (.int v))) (lm_I D t0 g ca A s (ls_o L 3 o v) X) := by
  intro H locs ⟨Z, hZ, hP, hD, hS⟩
  have he : lm_ws g ca L Z ++ X = lf_ws g ca L ++ (va_pl (ls_ow L) (fun o => .inr (5, lo_fs L o)) ++ ((lb_ws L ++ (lr_ws ca L ++ Z)) ++ X)) := by simp [lm_ws, lo_ws, List.append_assoc]
  have he2 : lm_ws g ca (ls_o L 3 o v) Z ++ X = lf_ws g ca L ++ (va_pl (ls_ow L) (fun q => .inr (5, lo_fs (ls_o L 3 o v) q)) ++ ((lb_ws L ++ (lr_ws ca L ++ Z)) ++ X)) := by
    rw [show lm_ws g ca (ls_o L 3 o v) Z = lf_ws g ca L ++ (va_pl (ls_ow L) (fun q => .inr (5, lo_fs (ls_o L 3 o v) q)) ++ (lb_ws L ++ (lr_ws ca L ++ Z))) from rfl]
    simp [List.append_assoc]
  have hf : ∀ q, q ≠ o → (fun q => (.inr (5, lo_fs (ls_o L 3 o v) q) : va_E)) q = (fun q => .inr (5, lo_fs L q)) q := by
    intro q hq
    simp [lo_fs, ls_of, ls_o, va_up, upd, hq]
  have hf2 : (fun q => (.inr (5, lo_fs (ls_o L 3 o v) q) : va_E)) o = .inr (5, (lo_fs L o).set 3 (.int v)) := by
    simp [lo_fs, ls_of, ls_o, va_up, upd]
  rw [he] at hP hD
  refine ⟨_, A, _, hP, hD, hS, List.mem_append_right _ (List.mem_append_left _ (List.mem_map.mpr ⟨o, ho, rfl⟩)), fun H1 locs1 hP1 hD1 hS1 => ⟨Z, hZ.congr rfl rfl rfl rfl, ?_, ?_, hS1⟩⟩
  · rw [wset_pool hD ho hf2 hf] at hP1; rw [he2]; exact hP1
  · rw [wset_pool hD ho hf2 hf] at hD1; rw [he2]; exact hD1
theorem ll_Uo4 {o : Nat} (v : Int32) (ho : o ∈ ls_ow L) : gU D (lm_I D t0 g ca A s L X) o (.inr (5, lo_fs L o)) (.inr (5, (lo_fs L o).set 4 (.int v))) (lm_I D t0 g ca A s (ls_o L 4 o v) X) := by
  intro H locs ⟨Z, hZ, hP, hD, hS⟩
  have he : lm_ws g ca L Z ++ X = lf_ws g ca L ++ (va_pl (ls_ow L) (fun o => .inr (5, lo_fs L o)) ++ ((lb_ws L ++ (lr_ws ca L ++ Z)) ++ X)) := by simp [lm_ws, lo_ws, List.append_assoc]
  have he2 : lm_ws g ca (ls_o L 4 o v) Z ++ X = lf_ws g ca L ++ (va_pl (ls_ow L) (fun q => .inr (5, lo_fs (ls_o L 4 o v) q)) ++ ((lb_ws L ++ (lr_ws ca L ++ Z)) ++ X)) := by
    rw [show lm_ws g ca (ls_o L 4 o v) Z = lf_ws g ca L ++ (va_pl (ls_ow L) (fun q => .inr (5, lo_fs (ls_o L 4 o v) q)) ++ (lb_ws L ++ (lr_ws ca L ++ Z))) from rfl]
    simp [List.append_assoc]
  have hf : ∀ q, q ≠ o → (fun q => (.inr (5, lo_fs (ls_o L 4 o v) q) : va_E)) q = (fun q => .inr (5, lo_fs L q)) q := by
    intro q hq
    simp [lo_fs, ls_of, ls_o, va_up, upd, hq]
  have hf2 : (fun q => (.inr (5, lo_fs (ls_o L 4 o v) q) : va_E)) o = .inr (5, (lo_fs L o).set 4 (.int v)) := by
    simp [lo_fs, ls_of, ls_o, va_up, upd]
  rw [he] at hP hD
  refine ⟨_, A, _, hP, hD, hS, List.mem_append_right _ (List.mem_append_left _ (List.mem_map.mpr ⟨o, ho, rfl⟩)), fun H1 locs1 hP1 hD1 hS1 => ⟨Z, hZ.congr rfl rfl rfl rfl, ?_, ?_, hS1⟩⟩
  · rw [wset_pool hD ho hf2 hf] at hP1; rw [he2]; exact hP1
  · rw [wset_pool hD ho hf2 hf] at hD1; rw [he2]; exact hD1
theorem ll_Uo5 {o : Nat} (v : Int32) (ho : o ∈ ls_ow L) : gU D (lm_I D t0 g ca A s L X) o (.inr (5, lo_fs L o)) (.inr (5, (lo_fs L o).set 5 (.int v))) (lm_I D t0 g ca A s (ls_o L 5 o v) X) := by
  intro H locs ⟨Z, hZ, hP, hD, hS⟩
  have he : lm_ws g ca L Z ++ X = lf_ws g ca L ++ (va_pl (ls_ow L) (fun o => .inr (5, lo_fs L o)) ++ ((lb_ws L ++ (lr_ws ca L ++ Z)) ++ X)) := by simp [lm_ws, lo_ws, List.append_assoc]
  have he2 : lm_ws g ca (ls_o L 5 o v) Z ++ X = lf_ws g ca L ++ (va_pl (ls_ow L) (fun q => .inr (5, lo_fs (ls_o L 5 o v) q)) ++ ((lb_ws L ++ (lr_ws ca L ++ Z)) ++ X)) := by
    rw [show lm_ws g ca (ls_o L 5 o v) Z = lf_ws g ca L ++ (va_pl (ls_ow L) (fun q => .inr (5, lo_fs (ls_o L 5 o v) q)) ++ (lb_ws L ++ (lr_ws ca L ++ Z))) from rfl]
    simp [List.append_assoc]
  have hf : ∀ q, q ≠ o → (fun q => (.inr (5, lo_fs (ls_o L 5 o v) q) : va_E)) q = (fun q => .inr (5, lo_fs L q)) q := by
    intro q hq
    simp [lo_fs, ls_of, ls_o, va_up, upd, hq]
  have hf2 : (fun q => (.inr (5, lo_fs (ls_o L 5 o v) q) : va_E)) o = .inr (5, (lo_fs L o).set 5 (.int v)) := by
    simp [lo_fs, ls_of, ls_o, va_up, upd]
  rw [he] at hP hD
  refine ⟨_, A, _, hP, hD, hS, List.mem_append_right _ (List.mem_append_left _ (List.mem_map.mpr ⟨o, ho, rfl⟩)), fun H1 locs1 hP1 hD1 hS1 => ⟨Z, hZ.congr rfl rfl rfl rfl, ?_, ?_, hS1⟩⟩
  · rw [wset_pool hD ho hf2 hf] at hP1; rw [he2]; exact hP1
  · rw [wset_pool hD ho hf2 hf] at hD1; rw [he2]; exact hD1
theorem ll_Uo6 {o : Nat} (v : Int32) (ho : o ∈ ls_ow L) : gU D (lm_I D t0 g ca A s L X) o (.inr (5, lo_fs L o)) (.inr (5, (lo_fs L o).set 6 (.int v))) (lm_I D t0 g ca A s (ls_o L 6 o v) X) := by
  intro H locs ⟨Z, hZ, hP, hD, hS⟩
  have he : lm_ws g ca L Z ++ X = lf_ws g ca L ++ (va_pl (ls_ow L) (fun o => .inr (5, lo_fs L o)) ++ ((lb_ws L ++ (lr_ws ca L ++ Z)) ++ X)) := by simp [lm_ws, lo_ws, List.append_assoc]
  have he2 : lm_ws g ca (ls_o L 6 o v) Z ++ X = lf_ws g ca L ++ (va_pl (ls_ow L) (fun q => .inr (5, lo_fs (ls_o L 6 o v) q)) ++ ((lb_ws L ++ (lr_ws ca L ++ Z)) ++ X)) := by
    rw [show lm_ws g ca (ls_o L 6 o v) Z = lf_ws g ca L ++ (va_pl (ls_ow L) (fun q => .inr (5, lo_fs (ls_o L 6 o v) q)) ++ (lb_ws L ++ (lr_ws ca L ++ Z))) from rfl]
    simp [List.append_assoc]
  have hf : ∀ q, q ≠ o → (fun q => (.inr (5, lo_fs (ls_o L 6 o v) q) : va_E)) q = (fun q => .inr (5, lo_fs L q)) q := by
    intro q hq
    simp [lo_fs, ls_of, ls_o, va_up, upd, hq]
  have hf2 : (fun q => (.inr (5, lo_fs (ls_o L 6 o v) q) : va_E)) o = .inr (5, (lo_fs L o).set 6 (.int v)) := by
    simp [lo_fs, ls_of, ls_o, va_up, upd]
  rw [he] at hP hD
  refine ⟨_, A, _, hP, hD, hS, List.mem_append_right _ (List.mem_append_left _ (List.mem_map.mpr ⟨o, ho, rfl⟩)), fun H1 locs1 hP1 hD1 hS1 => ⟨Z, hZ.congr rfl rfl rfl rfl, ?_, ?_, hS1⟩⟩
  · rw [wset_pool hD ho hf2 hf] at hP1; rw [he2]; exact hP1
  · rw [wset_pool hD ho hf2 hf] at hD1; rw [he2]; exact hD1
theorem ll_Ug {b : Nat} (v : Int64) (hb : b ∈ ls_bx L) : gU D (lm_I D t0 g ca A s L X) b (.inr (4, lb_fs L b)) (.inr (4, (lb_fs L b).set 2 (.long v))) (lm_I D t0 g ca A s (ls_g L b v) X) := by
  intro H locs ⟨Z, hZ, hP, hD, hS⟩
  have he : lm_ws g ca L Z ++ X = (lf_ws g ca L ++ lo_ws L) ++ (va_pl (ls_bx L) (fun b => .inr (4, lb_fs L b)) ++ ((lr_ws ca L ++ Z) ++ X)) := by simp [lm_ws, lb_ws, List.append_assoc]
  have he2 : lm_ws g ca (ls_g L b v) Z ++ X = (lf_ws g ca L ++ lo_ws L) ++ (va_pl (ls_bx L) (fun q => .inr (4, lb_fs (ls_g L b v) q)) ++ ((lr_ws ca L ++ Z) ++ X)) := by
    rw [show lm_ws g ca (ls_g L b v) Z = lf_ws g ca L ++ (lo_ws L ++ (va_pl (ls_bx L) (fun q => .inr (4, lb_fs (ls_g L b v) q)) ++ (lr_ws ca L ++ Z))) from rfl]
    simp [List.append_assoc]
  have hf : ∀ q, q ≠ b → (fun q => (.inr (4, lb_fs (ls_g L b v) q) : va_E)) q = (fun q => .inr (4, lb_fs L q)) q := by
    intro q hq
    simp [lb_fs, ls_bs, ls_ba, ls_bg, ls_g, vp_updL, hq]
  have hf2 : (fun q => (.inr (4, lb_fs (ls_g L b v) q) : va_E)) b = .inr (4, (lb_fs L b).set 2 (.long v)) := by
    simp [lb_fs, ls_bs, ls_ba, ls_bg, ls_g, vp_updL]
  rw [he] at hP hD
  refine ⟨_, A, _, hP, hD, hS, List.mem_append_right _ (List.mem_append_left _ (List.mem_map.mpr ⟨b, hb, rfl⟩)), fun H1 locs1 hP1 hD1 hS1 => ⟨Z, hZ.congr rfl rfl rfl rfl, ?_, ?_, hS1⟩⟩
  · rw [wset_pool hD hb hf2 hf] at hP1; rw [he2]; exact hP1
  · rw [wset_pool hD hb hf2 hf] at hD1; rw [he2]; exact hD1
theorem ll_Ub {b : Nat} (i v : Int32) (hb : b ∈ ls_bx L) : gU D (lm_I D t0 g ca A s L X) (ls_ba L b) (.inl (ca 0, 2, .inl (ls_br L b))) (.inl (ca 0, 2, .inl (upd (ls_br L b) i.toNatClampNeg v))) (lm_I D t0 g ca A s (ls_b L b i v) X) := by
  intro H locs ⟨Z, hZ, hP, hD, hS⟩
  have he : lm_ws g ca L Z ++ X = (lf_ws g ca L ++ (lo_ws L ++ lb_ws L)) ++ ((ls_bx L).map (fun b => (ls_ba L b, .inl (ca 0, 2, .inl (ls_br L b)))) ++ (Z ++ X)) := by simp [lm_ws, lr_ws, List.append_assoc]
  have he2 : lm_ws g ca (ls_b L b i v) Z ++ X = (lf_ws g ca L ++ (lo_ws L ++ lb_ws L)) ++ ((ls_bx L).map (fun q => (ls_ba L q, .inl (ca 0, 2, .inl (ls_br (ls_b L b i v) q)))) ++ (Z ++ X)) := by
    rw [show lm_ws g ca (ls_b L b i v) Z = lf_ws g ca L ++ (lo_ws L ++ (lb_ws L ++ ((ls_bx L).map (fun q => (ls_ba L q, .inl (ca 0, 2, .inl (ls_br (ls_b L b i v) q)))) ++ Z))) from rfl]
    simp [List.append_assoc]
  have hf : ∀ q, q ≠ b → (fun q => (.inl (ca 0, 2, .inl (ls_br (ls_b L b i v) q)) : va_E)) q = (fun q => .inl (ca 0, 2, .inl (ls_br L q))) q := by
    intro q hq
    simp [ls_br, ls_b, va_up, hq]
  have hf2 : (fun q => (.inl (ca 0, 2, .inl (ls_br (ls_b L b i v) q)) : va_E)) b = .inl (ca 0, 2, .inl (upd (ls_br L b) i.toNatClampNeg v)) := by
    simp [ls_br, ls_b, va_up]
  rw [he] at hP hD
  refine ⟨_, A, _, hP, hD, hS, List.mem_append_right _ (List.mem_append_left _ (List.mem_map.mpr ⟨b, hb, rfl⟩)), fun H1 locs1 hP1 hD1 hS1 => ⟨Z, hZ.congr rfl rfl rfl rfl, ?_, ?_, hS1⟩⟩
  · rw [wset_rings (k := ls_ba L) (f := fun b => .inl (ca 0, 2, .inl (ls_br L b))) hD hb hf2 hf] at hP1; rw [he2]; exact hP1
  · rw [wset_rings (k := ls_ba L) (f := fun b => .inl (ca 0, 2, .inl (ls_br L b))) hD hb hf2 hf] at hD1; rw [he2]; exact hD1
theorem lm_entry {y : MethodName} {bytes : ByteArray} {maxL : Nat} {rm : Room} {As : List Value} {Z : va_W} {sz : Nat} {Qc : Array Value → State → Outcome → State → Prop} (hy : plainName y.cls = true) (hl : (lg_sl (.ref (g 0) :: As)).length ≤ maxL) (body : ∀ (p : Program) (e : Env) (s : State) (m : MethodId) (args : Array Value) (below : List Frame) (meth : Method) (c : Code) (A : Nat → Prop), va_A (lm_ws g ca L Z) sz = A → (∀ q, s.heap.size ≤ q → A q) → gZ t0 A s → gx_C p s m args meth c bytes maxL ret y.cls → gK D ca s → gx_W p l e (headSpec (ws_ y bytes maxL ret) rm).room s m args below meth c maxL (lm_I D t0 g ca A s L []) 0 0 (MQ below Qc args s mc ms A) 0 (lv_args 0 (.ref (g 0) :: As)) []) : lm_Met l y bytes maxL ret rm As D t0 g ca Z sz L Qc mc ms := by
  refine Met.ofW (cc := bytes) (maxL := maxL) (ret := ret) hy rfl ?_
  intro p e s m args below meth c s₁ B hml hv
  obtain ⟨ha, hsz, hZ, hP, hD, hK, hG⟩ := hv
  subst hsz
  have hts := atoms_spec (ws := ws_ y bytes maxL ret) B.pre
  have hts : ∀ w ∈ lw_all, w.before args s = true := fun w h => hts w (List.mem_cons_of_mem _ h)
  have hk := body p e s m args below meth c _ rfl (fun q h => Or.inr h) hG ⟨⟨B.exec, B.bytes, hml, findClass_of_methodNamed B.named, hts⟩, B.returns, B.notSynchronized⟩ hK
  have h0 := hk s.heap [] _ ⟨Z, hZ, by rw [List.append_nil]; exact hP, by rw [List.append_nil]; exact hD.self, va_S.rf⟩ (lv_entry (.ref (g 0) :: As) hl)
  rw [← lg_entry_eq, ← ha] at h0
  exact h0
theorem lm_pre {As : List Value} {Z : va_W} {H : Heap} {locs : List Loc} (hK : gK D ca s) (hG : gZ t0 A s) (hA : ∀ q, s.heap.size ≤ q → A q) (hZ : lhZ t0 g ca L Z) (hP : va_P D gcl (lm_ws g ca L Z ++ X) H) (hD : va_D A (lm_ws g ca L Z ++ X)) (hS : va_S A s.heap H locs) : (∀ q, va_A (lm_ws g ca L Z) H.size q → A q) ∧ PreV s H RX2 (g 0) (va_Pc (.ref (g 0) :: As) (lm_P D t0 g ca Z H.size L)) As := by
  have hup : ∀ q, va_A (lm_ws g ca L Z) H.size q → A q := by
    intro q h
    rcases h with ⟨k, x, h⟩ | h
    · exact hD.l.2 k (q, x) h
    · exact hA q (Nat.le_trans hS.1 h)
  refine ⟨hup, fun a' U gg mk z => ?_, gw_recv hK (ci := 2) rfl (hP 0 _ rfl), fun U hU hW => ⟨rfl, by rw [hU], hZ, by rw [hU]; exact hP.l, hD.l.weaken (fun _ _ _ _ => trivial), hK.moved hW, hG.at hW.alike hU hS hup⟩⟩
  obtain ⟨z1, z2, z3, z4, z5, z6, z7⟩ := z
  exact ⟨z1, z2, z3, z4, z5, gK.same (U := U.calling gg mk a') rfl z6, gZ.same (U := U.calling gg mk a') z7 rfl rfl⟩
theorem lm_calli {y : MethodName} {bytes : ByteArray} {maxL n index : Nat} {r0 : Option FieldType} {rm : Room} {As st : List Value} {Qf : Int32 → LSt → Prop} (C : gx_C p s m args meth c cc nL ret own) (hK : gK D ca s) (hG : gZ t0 A s) (hA : ∀ q, s.heap.size ≤ q → A q) (hM : ∀ Z sz, lm_Met l y bytes maxL r0 rm As D t0 g ca Z sz L (va_Qi Qf (lm_B D t0 g ca (va_A (lm_ws g ca L Z) sz)) (va_A (lm_ws g ca L Z) sz)) mc ms) (cw : CallW R s args own RX2 index y bytes maxL r0 (ws_ y bytes maxL r0) rm mc ms n) (hn : As.length = n) (hst : st = As.reverse ++ .ref (g 0) :: rest) (hr : (rest.map fun v => v.category).sum ≤ 8) (hf : cells + mc ≤ R.cells ∧ slots + ms ≤ R.slots) (hdg : decode cc pc = .ok (.invokevirtual index, 3)) (kk : ∀ r L', Qf r L' → gx_W p l e R s m args below meth c nL (lm_I D t0 g ca A s L' X) (cells + mc) (slots + ms) Q (pc + 3) lv (.int r :: rest)) : gx_W p l e R s m args below meth c nL (lm_I D t0 g ca A s L X) cells slots Q pc lv st := by
  intro H locs ls ⟨Z, hZ, hP, hD, hS⟩ hL
  subst hst
  obtain ⟨hup, hpre⟩ := lm_pre (As := As) hK hG hA hZ hP hD hS
  refine va_calli (A1 := va_A (lm_ws g ca L Z) H.size) (A0 := A) (va_runV C.1 (hM Z H.size) cw hpre rfl hn hL.1 rfl (lv_room hr) hdg hf) hS (fun q _ h => hup q h) hup (fun r u t H1 locs1 ht hvm hw hB hz hk hS1 => ?_)
  obtain ⟨Z1, hZ1, hP1, hD1⟩ := hB
  rw [ht] at hP1
  obtain ⟨hP2, hD2⟩ := w_join hP hD hup hk hP1 hD1
  exact kk r u hw H1 locs1 ls ⟨Z1, hZ1, hP2, hD2, hS1⟩ hL
theorem lm_calll {y : MethodName} {bytes : ByteArray} {maxL n index : Nat} {r0 : Option FieldType} {rm : Room} {As st : List Value} {Qf : Int64 → LSt → Prop} (C : gx_C p s m args meth c cc nL ret own) (hK : gK D ca s) (hG : gZ t0 A s) (hA : ∀ q, s.heap.size ≤ q → A q) (hM : ∀ Z sz, lm_Met l y bytes maxL r0 rm As D t0 g ca Z sz L (va_Ql Qf (lm_B D t0 g ca (va_A (lm_ws g ca L Z) sz)) (va_A (lm_ws g ca L Z) sz)) mc ms) (cw : CallW R s args own RX2 index y bytes maxL r0 (ws_ y bytes maxL r0) rm mc ms n) (hn : As.length = n) (hst : st = As.reverse ++ .ref (g 0) :: rest) (hr : (rest.map fun v => v.category).sum ≤ 8) (hf : cells + mc ≤ R.cells ∧ slots + ms ≤ R.slots) (hdg : decode cc pc = .ok (.invokevirtual index, 3)) (kk : ∀ r L', Qf r L' → gx_W p l e R s m args below meth c nL (lm_I D t0 g ca A s L' X) (cells + mc) (slots + ms) Q (pc + 3) lv (.long r :: rest)) : gx_W p l e R s m args below meth c nL (lm_I D t0 g ca A s L X) cells slots Q pc lv st := by
  intro H locs ls ⟨Z, hZ, hP, hD, hS⟩ hL
  subst hst
  obtain ⟨hup, hpre⟩ := lm_pre (As := As) hK hG hA hZ hP hD hS
  refine va_calll (A1 := va_A (lm_ws g ca L Z) H.size) (A0 := A) (va_runV C.1 (hM Z H.size) cw hpre rfl hn hL.1 rfl (lv_room hr) hdg hf) hS (fun q _ h => hup q h) hup (fun r u t H1 locs1 ht hvm hw hB hz hk hS1 => ?_)
  obtain ⟨Z1, hZ1, hP1, hD1⟩ := hB
  rw [ht] at hP1
  obtain ⟨hP2, hD2⟩ := w_join hP hD hup hk hP1 hD1
  exact kk r u hw H1 locs1 ls ⟨Z1, hZ1, hP2, hD2, hS1⟩ hL
theorem lm_calld {y : MethodName} {bytes : ByteArray} {maxL n index : Nat} {r0 : Option FieldType} {rm : Room} {As st : List Value} {Qf : UInt64 → LSt → Prop} (C : gx_C p s m args meth c cc nL ret own) (hK : gK D ca s) (hG : gZ t0 A s) (hA : ∀ q, s.heap.size ≤ q → A q) (hM : ∀ Z sz, lm_Met l y bytes maxL r0 rm As D t0 g ca Z sz L (va_Qd Qf (lm_B D t0 g ca (va_A (lm_ws g ca L Z) sz)) (va_A (lm_ws g ca L Z) sz)) mc ms) (cw : CallW R s args own RX2 index y bytes maxL r0 (ws_ y bytes maxL r0) rm mc ms n) (hn : As.length = n) (hst : st = As.reverse ++ .ref (g 0) :: rest) (hr : (rest.map fun v => v.category).sum ≤ 8) (hf : cells + mc ≤ R.cells ∧ slots + ms ≤ R.slots) (hdg : decode cc pc = .ok (.invokevirtual index, 3)) (kk : ∀ r L', Qf r L' → gx_W p l e R s m args below meth c nL (lm_I D t0 g ca A s L' X) (cells + mc) (slots + ms) Q (pc + 3) lv (.double r :: rest)) : gx_W p l e R s m args below meth c nL (lm_I D t0 g ca A s L X) cells slots Q pc lv st := by
  intro H locs ls ⟨Z, hZ, hP, hD, hS⟩ hL
  subst hst
  obtain ⟨hup, hpre⟩ := lm_pre (As := As) hK hG hA hZ hP hD hS
  refine va_calld (A1 := va_A (lm_ws g ca L Z) H.size) (A0 := A) (va_runV C.1 (hM Z H.size) cw hpre rfl hn hL.1 rfl (lv_room hr) hdg hf) hS (fun q _ h => hup q h) hup (fun r u t H1 locs1 ht hvm hw hB hz hk hS1 => ?_)
  obtain ⟨Z1, hZ1, hP1, hD1⟩ := hB
  rw [ht] at hP1
  obtain ⟨hP2, hD2⟩ := w_join hP hD hup hk hP1 hD1
  exact kk r u hw H1 locs1 ls ⟨Z1, hZ1, hP2, hD2, hS1⟩ hL
theorem lm_callv {y : MethodName} {bytes : ByteArray} {maxL n index : Nat} {r0 : Option FieldType} {rm : Room} {As st : List Value} {Qf : LSt → Prop} (C : gx_C p s m args meth c cc nL ret own) (hK : gK D ca s) (hG : gZ t0 A s) (hA : ∀ q, s.heap.size ≤ q → A q) (hM : ∀ Z sz, lm_Met l y bytes maxL r0 rm As D t0 g ca Z sz L (va_Qv Qf (lm_B D t0 g ca (va_A (lm_ws g ca L Z) sz)) (va_A (lm_ws g ca L Z) sz)) mc ms) (cw : CallW R s args own RX2 index y bytes maxL r0 (ws_ y bytes maxL r0) rm mc ms n) (hn : As.length = n) (hst : st = As.reverse ++ .ref (g 0) :: rest) (hr : (rest.map fun v => v.category).sum ≤ 8) (hf : cells + mc ≤ R.cells ∧ slots + ms ≤ R.slots) (hdg : decode cc pc = .ok (.invokevirtual index, 3)) (kk : ∀ L', Qf L' → gx_W p l e R s m args below meth c nL (lm_I D t0 g ca A s L' X) (cells + mc) (slots + ms) Q (pc + 3) lv rest) : gx_W p l e R s m args below meth c nL (lm_I D t0 g ca A s L X) cells slots Q pc lv st := by
  intro H locs ls ⟨Z, hZ, hP, hD, hS⟩ hL
  subst hst
  obtain ⟨hup, hpre⟩ := lm_pre (As := As) hK hG hA hZ hP hD hS
  refine va_callv (A1 := va_A (lm_ws g ca L Z) H.size) (A0 := A) (va_runV C.1 (hM Z H.size) cw hpre rfl hn hL.1 rfl (lv_room hr) hdg hf) hS (fun q _ h => hup q h) hup (fun u t H1 locs1 ht hvm hw hB hz hk hS1 => ?_)
  obtain ⟨Z1, hZ1, hP1, hD1⟩ := hB
  rw [ht] at hP1
  obtain ⟨hP2, hD2⟩ := w_join hP hD hup hk hP1 hD1
  exact kk u hw H1 locs1 ls ⟨Z1, hZ1, hP2, hD2, hS1⟩ hL
theorem lm_callq {y : MethodName} {bytes : ByteArray} {maxL n index : Nat} {r0 : Option FieldType} {rm : Room} {As st : List Value} {Qf : Option Nat → LSt → Prop} (C : gx_C p s m args meth c cc nL ret own) (hK : gK D ca s) (hG : gZ t0 A s) (hA : ∀ q, s.heap.size ≤ q → A q) (hM : ∀ Z sz, lm_Met l y bytes maxL r0 rm As D t0 g ca Z sz L (va_Qq Qf (lm_B D t0 g ca (va_A (lm_ws g ca L Z) sz)) (va_A (lm_ws g ca L Z) sz)) mc ms) (cw : CallW R s args own RX2 index y bytes maxL r0 (ws_ y bytes maxL r0) rm mc ms n) (hn : As.length = n) (hst : st = As.reverse ++ .ref (g 0) :: rest) (hr : (rest.map fun v => v.category).sum ≤ 8) (hf : cells + mc ≤ R.cells ∧ slots + ms ≤ R.slots) (hdg : decode cc pc = .ok (.invokevirtual index, 3)) (kk : ∀ r L', Qf r L' → gx_W p l e R s m args below meth c nL (lm_I D t0 g ca A s L' X) (cells + mc) (slots + ms) Q (pc + 3) lv (va_rf r :: rest)) : gx_W p l e R s m args below meth c nL (lm_I D t0 g ca A s L X) cells slots Q pc lv st := by
  intro H locs ls ⟨Z, hZ, hP, hD, hS⟩ hL
  subst hst
  obtain ⟨hup, hpre⟩ := lm_pre (As := As) hK hG hA hZ hP hD hS
  refine va_callq (A1 := va_A (lm_ws g ca L Z) H.size) (A0 := A) (va_runV C.1 (hM Z H.size) cw hpre rfl hn hL.1 rfl (lv_room hr) hdg hf) hS (fun q _ h => hup q h) hup (fun r u t H1 locs1 ht hvm hw hB hz hk hS1 => ?_)
  obtain ⟨Z1, hZ1, hP1, hD1⟩ := hB
  rw [ht] at hP1
  obtain ⟨hP2, hD2⟩ := w_join hP hD hup hk hP1 hD1
  exact kk r u hw H1 locs1 ls ⟨Z1, hZ1, hP2, hD2, hS1⟩ hL
theorem lm_iret {Qf : Int32 → LSt → Prop} {v : Int32} (C : gx_C p s m args meth c cc nL (some .int) own) (hq : Qf v L) (h1 : cells ≤ mc) (h2 : slots ≤ ms) (hdg : decode cc pc = .ok (.ireturn, 1)) : gx_W p l e R s m args below meth c nL (lm_I D t0 g ca A s L X) cells slots (MQ below (va_Qi Qf (lm_B D t0 g ca A) A) args s mc ms A) pc lv [.int v] :=
  fun H locs ls ⟨Z, hZ, hP, hD, hS⟩ hL => have hk := C.k; W.widen h1 h2 (W.iret C.x C.b C.r (fun t ht hW => ⟨⟨v, L, rfl, hq, Z, hZ, by rw [ht]; exact hP.l, hD.l⟩, hS.F ht⟩) hS.2.2 hdg hk)
theorem lm_lret {Qf : Int64 → LSt → Prop} {v : Int64} (C : gx_C p s m args meth c cc nL (some .long) own) (hq : Qf v L) (h1 : cells ≤ mc) (h2 : slots ≤ ms) (hdg : decode cc pc = .ok (.lreturn, 1)) : gx_W p l e R s m args below meth c nL (lm_I D t0 g ca A s L X) cells slots (MQ below (va_Ql Qf (lm_B D t0 g ca A) A) args s mc ms A) pc lv [.long v] :=
  fun H locs ls ⟨Z, hZ, hP, hD, hS⟩ hL => have hk := C.k; W.widen h1 h2 (W.lret C.x C.b C.r (fun t ht hW => ⟨⟨v, L, rfl, hq, Z, hZ, by rw [ht]; exact hP.l, hD.l⟩, hS.F ht⟩) hS.2.2 hdg hk)
theorem lm_dret {Qf : UInt64 → LSt → Prop} {v : UInt64} (C : gx_C p s m args meth c cc nL (some .double) own) (hq : Qf v L) (h1 : cells ≤ mc) (h2 : slots ≤ ms) (hdg : decode cc pc = .ok (.dreturn, 1)) : gx_W p l e R s m args below meth c nL (lm_I D t0 g ca A s L X) cells slots (MQ below (va_Qd Qf (lm_B D t0 g ca A) A) args s mc ms A) pc lv [.double v] :=
  fun H locs ls ⟨Z, hZ, hP, hD, hS⟩ hL => have hk := C.k; W.widen h1 h2 (W.dret C.x C.b C.r (fun t ht hW => ⟨⟨v, L, rfl, hq, Z, hZ, by rw [ht]; exact hP.l, hD.l⟩, hS.F ht⟩) hS.2.2 hdg hk)
theorem lm_zret {Qf : Int32 → LSt → Prop} {v : Int32} {ty : FieldType} (C : gx_C p s m args meth c cc nL (some ty) own) (hn : narrow ty (.int v) = .int v) (hq : Qf v L) (h1 : cells ≤ mc) (h2 : slots ≤ ms) (hdg : decode cc pc = .ok (.ireturn, 1)) : gx_W p l e R s m args below meth c nL (lm_I D t0 g ca A s L X) cells slots (MQ below (va_Qi Qf (lm_B D t0 g ca A) A) args s mc ms A) pc lv [.int v] :=
  fun H locs ls ⟨Z, hZ, hP, hD, hS⟩ hL => W.widen h1 h2 (W.zret C.x C.b C.r hn (fun t ht hW => ⟨⟨v, L, rfl, hq, Z, hZ, by rw [ht]; exact hP.l, hD.l⟩, hS.F ht⟩) hS.2.2 hdg C.k)
theorem lm_vret {Qf : LSt → Prop} (C : gx_C p s m args meth c cc nL none own) (hq : Qf L) (h1 : cells ≤ mc) (h2 : slots ≤ ms) (hdg : decode cc pc = .ok (.return_, 1)) : gx_W p l e R s m args below meth c nL (lm_I D t0 g ca A s L X) cells slots (MQ below (va_Qv Qf (lm_B D t0 g ca A) A) args s mc ms A) pc lv [] :=
  fun H locs ls ⟨Z, hZ, hP, hD, hS⟩ hL => W.widen h1 h2 (W.vret C.x C.b C.r (fun t ht hW => ⟨⟨L, rfl, hq, Z, hZ, by rw [ht]; exact hP.l, hD.l⟩, hS.F ht⟩) hS.2.2 hdg C.k)
theorem lm_qret {Qf : Option Nat → LSt → Prop} {r : Option Nat} {ty : FieldType} (hrt : (∃ n, ty = .object n) ∨ ∃ t, ty = .array t) (C : gx_C p s m args meth c cc nL (some ty) own) (hq : Qf r L) (h1 : cells ≤ mc) (h2 : slots ≤ ms) (hdg : decode cc pc = .ok (.areturn, 1)) : gx_W p l e R s m args below meth c nL (lm_I D t0 g ca A s L X) cells slots (MQ below (va_Qq Qf (lm_B D t0 g ca A) A) args s mc ms A) pc lv [va_rf r] :=
  fun H locs ls ⟨Z, hZ, hP, hD, hS⟩ hL => W.widen h1 h2 (W.aret C.x C.b C.r hrt (by cases r with | none => exact Or.inl rfl | some x => exact Or.inr ⟨x, rfl⟩) (fun t ht hW => ⟨⟨r, L, rfl, hq, Z, hZ, by rw [ht]; exact hP.l, hD.l⟩, hS.F ht⟩) hS.2.2 hdg C.k)
end LM
