/-! THE X LAYER: a block of cells at addresses b, b + 1, .. as functions of ids; one judgement X, one row an instruction -/
abbrev xs_T : Type := Option (Nat ⊕ (Nat × Nat))
abbrev xI_T : Type := Nat → Nat → Int32
abbrev xL_T : Type := Nat → Nat → Int64
abbrev xF_T : Type := Nat → Nat → Option Nat
abbrev xG_T : Type := va_G × (Nat → ClassId) × State × Nat
abbrev xP_T : Type := Option Value → Nat → (Nat → xs_T) → xI_T → xL_T → xF_T → Prop
def up2 {α : Type} (f : Nat → Nat → α) (i k : Nat) (v : α) : Nat → Nat → α := fun a j => if a = i ∧ j = k then v else f a j
theorem up2_s {α : Type} (f : Nat → Nat → α) (i k : Nat) (v : α) : up2 f i k v i k = v := by simp [up2]
theorem up2_n {α : Type} (f : Nat → Nat → α) {i k a j : Nat} (v : α) (h : ¬ (a = i ∧ j = k)) : up2 f i k v a j = f a j := if_neg h
theorem up2_i {α : Type} (f : Nat → Nat → α) {i k a j : Nat} (v : α) (h : a ≠ i) : up2 f i k v a j = f a j := if_neg (fun q => h q.1)
theorem up2_k {α : Type} (f : Nat → Nat → α) {i k a j : Nat} (v : α) (h : j ≠ k) : up2 f i k v a j = f a j := if_neg (fun q => h q.2)
theorem up2_r {α : Type} (f : Nat → Nat → α) {i k a : Nat} (v : α) (h : a ≠ i) : up2 f i k v a = f a := by
  funext j
  exact up2_i f v h
def xcl : List vw_C := [(RX0, TX0, 44), (RX1, TX1, 1), (RX2, TX2, 10), (RX3, TX3, 54), (RX4, TX4, 4), (RX5, TX5, 4), (RX6, TX6, 4), (RX7, TX7, 3), (RX1, TX1, 1), (RX9, TX9, 1), (RX10, TX10, 1), (RX11, TX11, 1), (RX12, TX12, 1), (RX13, TX13, 3), (RX1, TX1, 1), (RX15, TX15, 2), (RX16, TX16, 3), (RX17, TX17, 3), (RX18, TX18, 4), (RX19, TX19, 4), (RX20, TX20, 5), (RX21, TX21, 3), (RX22, TX22, 5), (RX1, TX1, 1), (RX24, TX24, 1), (RX25, TX25, 1), (RX26, TX26, 1), (RX27, TX27, 1), (RX28, TX28, 1), (RX1, TX1, 1), (RX1, TX1, 1)]
def xfk : Nat → List Nat := fun c => match c with
  | 0 => [1, 0, 0, 0, 0, 1, 0, 0, 1, 0, 1, 1, 1, 1, 1, 0, 0, 0, 1, 0, 1, 0, 1, 0, 0, 0, 0, 0, 0, 0, 0, 0, 1, 0, 0, 0, 0, 0, 0, 0, 1, 1, 0, 1]
  | 1 => [1]
  | 2 => [1, 1, 1, 1, 1, 0, 0, 0, 0, 0]
  | 3 => [0, 1, 0, 0, 1, 0, 1, 0, 0, 1, 1, 1, 1, 0, 0, 0, 0, 1, 1, 1, 1, 1, 1, 1, 0, 0, 1, 1, 0, 0, 1, 0, 1, 0, 1, 1, 1, 1, 1, 1, 0, 0, 0, 0, 1, 0, 1, 1, 1, 1, 1, 1, 0, 1]
  | 4 => [0, 0, 0, 0]
  | 5 => [0, 0, 0, 0]
  | 6 => [0, 0, 0, 1]
  | 7 => [1, 1, 1]
  | 9 => [0]
  | 10 => [1]
  | 11 => [1]
  | 12 => [0]
  | 13 => [0, 1, 1]
  | 15 => [0, 1]
  | 16 => [0, 1, 1]
  | 17 => [0, 1, 1]
  | 18 => [0, 1, 1, 1]
  | 19 => [0, 1, 1, 1]
  | 20 => [0, 1, 1, 1, 1]
  | 21 => [0, 1, 1]
  | 22 => [0, 1, 1, 1, 1]
  | 24 => [1]
  | 25 => [1]
  | 26 => [1]
  | 27 => [1]
  | 28 => [1]
  | _ => [1]
def xtys (DA : Nat → ClassId) : List (ClassId × FieldType) := [(DA 0, .int), (DA 1, .byte), (DA 2, .short), (DA 3, .boolean), (DA 4, .long), (DA 5, .object "ThirdAfter$Buyer"), (DA 6, .object "ThirdAfter$Change"), (DA 7, .object "ThirdAfter$Market"), (DA 8, .array .int), (DA 9, .object "ThirdAfter$Latch"), (DA 10, .object "ThirdAfter$Held")]
abbrev xb (G : xG_T) : Nat := G.2.2.1.heap.size
def xval (b : Nat) (r : Option Nat) : Value := va_rf (r.map (fun x => b + x))
def xobj (b : Nat) (ks : List Nat) (I : Nat → Int32) (F : Nat → Option Nat) : List Value := (List.range ks.length).map fun k => if ks.getD k 0 = 0 then .int (I k) else xval b (F k)
def xarr (b t n : Nat) (I : Nat → Int32) (L : Nat → Int64) (F : Nat → Option Nat) : vp_A := (n, if t < 4 then .inl I else if t = 4 then .inr (.inl L) else .inr (.inr (.inr (.inr (fun j => (F j).map (fun x => b + x))))))
def xcell (G : xG_T) (Ty : Nat → xs_T) (I : xI_T) (L : xL_T) (F : xF_T) (i : Nat) : Option va_E := match Ty i with
  | none => none
  | some (.inl ci) => some (.inr (ci, xobj (xb G) (xfk ci) (I i) (F i)))
  | some (.inr tn) => some (.inl (G.2.1 tn.1, xarr (xb G) tn.1 tn.2 (I i) (L i) (F i)))
/-- the world: n cells at b, b + 1, ..; those of known shape hold what the functions say; below b the start's heap -/
def Wd (G : xG_T) (own : Nat → Prop) (n : Nat) (Ty : Nat → xs_T) (I : xI_T) (L : xL_T) (F : xF_T) (H : Heap) : Prop :=
  H.size = xb G + n ∧ (∀ q : Nat, q < xb G → H[q]? = G.2.2.1.heap[q]?) ∧ (∀ i : Nat, i < n → Ty i ≠ none → own i) ∧ ∀ (i : Nat) (e : va_E), i < n → xcell G Ty I L F i = some e → va_at G.1 xcl (xb G + i, e) H
/-- what holds at the law's start -/
def xStart (G : xG_T) : Prop := va_K G.1 xcl (xtys G.2.1) G.2.2.1 ∧ (∀ w ∈ lw_tbl, w.before #[Value.ref G.2.2.2] G.2.2.1 = true) ∧ (Jvm.Cond.and given_1 narrow_1).before #[Value.ref G.2.2.2] G.2.2.1 = true ∧ modulesRight_1 G.2.2.1 = true
/-- a state of the run: its tables are the start's, warmed -/
def xKK (G : xG_T) (U : State) : Prop := xStart G ∧ G.2.2.1.WarmedH U.vm
theorem xKK.K {G : xG_T} {U : State} (h : xKK G U) : va_K G.1 xcl (xtys G.2.1) U := va_K.moved h.2.alike h.1.1
theorem xKK.warm {G : xG_T} {s U : State} (h : xKK G s) (hW : s.WarmedH U.vm) : xKK G U := ⟨h.1, h.2.trans hW⟩
def xA (G : xG_T) (own : Nat → Prop) : Nat → Prop := fun q => ∃ i, q = xb G + i ∧ own i
def xQ (G : xG_T) (own : Nat → Prop) (post : xP_T) : Array Value → State → Outcome → State → Prop := fun _ st oc t => (∃ (v : Option Value) (n : Nat) (Ty : Nat → xs_T) (I : xI_T) (L : xL_T) (F : xF_T), oc = .returned v ∧ post v n Ty I L F ∧ Wd G own n Ty I L F t.heap) ∧ va_F (xA G own) st t
def xrm (k mc ms : Nat) : Room := { frames := k, cells := mc, slots := ms, locals := 64 * k }
/-- a method's contract: from the world (n, Ty, I, L, F), with the arguments av, it returns, with post of answer and new world -/
def Cg (l : Launch) (k mc ms : Nat) (y : MethodName) (cc : ByteArray) (nL : Nat) (ret : Option FieldType) (G : xG_T) (own : Nat → Prop) (av : List Value) (n : Nat) (Ty : Nat → xs_T) (I : xI_T) (L : xL_T) (F : xF_T) (post : xP_T) : Prop :=
  Met l y (ws_ y cc nL ret) (xrm k mc ms) (va_Pc av (fun U => Wd G own n Ty I L F U.heap ∧ xKK G U)) (xQ G own post) mc ms (xA G own)
/-- an exact answer and world -/
def xpE (r : Option Value) (n : Nat) (Ty : Nat → xs_T) (I : xI_T) (L : xL_T) (F : xF_T) : xP_T := fun v n' Ty' I' L' F' => v = r ∧ n' = n ∧ Ty' = Ty ∧ I' = I ∧ L' = L ∧ F' = F
theorem xpE.rf {r : Option Value} {n : Nat} {Ty : Nat → xs_T} {I : xI_T} {L : xL_T} {F : xF_T} : xpE r n Ty I L F r n Ty I L F := ⟨rfl, rfl, rfl, rfl, rfl, rfl⟩
theorem xpE.to {r r' : Option Value} {n : Nat} {Ty : Nat → xs_T} {I I' : xI_T} {L L' : xL_T} {F F' : xF_T} (h1 : r' = r) (h2 : I' = I) (h3 : L' = L) (h4 : F' = F) : xpE r n Ty I L F r' n Ty I' L' F' := ⟨h1, rfl, rfl, h2, h3, h4⟩
/-- the locals: a place each, none: nothing said -/
def xloc (ls : Array Slot) (nL : Nat) (lv : List (Option Value)) : Prop := ls.size = nL ∧ lv_wf ls ∧ ∀ (i : Nat) (v : Value), lv[i]? = some (some v) → ls[i]? = some (.val v)
def xprs (lv : List (Option Value)) : List (Nat × Value) := (List.range lv.length).filterMap fun i => (lv[i]?.join).map fun v => (i, v)
theorem xprs_mem {lv : List (Option Value)} {i : Nat} {v : Value} (h : lv[i]? = some (some v)) : (i, v) ∈ xprs lv := by
  refine List.mem_filterMap.mpr ⟨i, List.mem_range.mpr (List.getElem?_eq_some_iff.mp h).1, ?_⟩
  rw [h]
  rfl
theorem xloc.has {ls : Array Slot} {nL : Nat} {lv : List (Option Value)} (h : xloc ls nL lv) : lv_has ls nL (xprs lv) := by
  refine ⟨h.1, h.2.1, fun q hq => ?_⟩
  obtain ⟨i, -, hi⟩ := List.mem_filterMap.mp hq
  cases hv : lv[i]? with
  | none => rw [hv] at hi; cases hi
  | some o =>
    cases o with
    | none => rw [hv] at hi; cases hi
    | some v =>
      rw [hv] at hi
      cases hi
      exact h.2.2 i v hv
def xkill (lv : List (Option Value)) (i : Nat) : List (Option Value) := match i with
  | 0 => lv
  | j + 1 => match lv[j]? with
    | some (some (.long _)) => lv.set j none
    | some (some (.double _)) => lv.set j none
    | _ => lv
def xset1 (lv : List (Option Value)) (i : Nat) (v : Value) : List (Option Value) := (xkill lv i).set i (some v)
def xset2 (lv : List (Option Value)) (i : Nat) (v : Value) : List (Option Value) := ((xkill lv i).set i (some v)).set (i + 1) none
theorem xkill_of {lv : List (Option Value)} {i j : Nat} {w : Value} (h : (xkill lv i)[j]? = some (some w)) : lv[j]? = some (some w) ∧ ¬ (j + 1 = i ∧ w.category = 2) := by
  unfold xkill at h
  split at h
  · exact ⟨h, fun q => absurd q.1 (Nat.succ_ne_zero j)⟩
  · rename_i k
    split at h
    · by_cases hj : j = k
      · subst hj
        rw [List.getElem?_set] at h
        simp at h
      · rw [List.getElem?_set_ne (Ne.symm hj)] at h
        exact ⟨h, fun q => hj (by omega)⟩
    · by_cases hj : j = k
      · subst hj
        rw [List.getElem?_set] at h
        simp at h
      · rw [List.getElem?_set_ne (Ne.symm hj)] at h
        exact ⟨h, fun q => hj (by omega)⟩
    · rename_i h1 h2
      refine ⟨h, fun q => ?_⟩
      have hjk : j = k := by omega
      subst hjk
      cases w with
      | long x => exact h1 _ h
      | double x => exact h2 _ h
      | _ => exact absurd q.2 (by simp [Value.category])
theorem xloc.set1 {ls : Array Slot} {nL i : Nat} {lv : List (Option Value)} {v : Value} (h : lv_has ls nL ((i, v) :: (xprs lv).filter (fun q => !(q.1 == i) && !(q.1 + 1 == i && q.2.category == 2)))) : xloc ls nL (xset1 lv i v) := by
  refine ⟨h.1, h.2.1, fun j w hj => ?_⟩
  by_cases e : j = i
  · subst e
    have hw : w = v := by
      unfold xset1 at hj
      rw [List.getElem?_set] at hj
      simp at hj
      exact hj.2.symm
    subst hw
    exact h.2.2 (j, w) List.mem_cons_self
  · unfold xset1 at hj
    rw [List.getElem?_set_ne (Ne.symm e)] at hj
    obtain ⟨h1, h2⟩ := xkill_of hj
    refine h.2.2 (j, w) (List.mem_cons_of_mem _ (List.mem_filter.mpr ⟨xprs_mem h1, ?_⟩))
    simp only [Bool.and_eq_true, Bool.not_eq_true', beq_eq_false_iff_ne, Bool.and_eq_false_iff]
    refine ⟨e, ?_⟩
    by_cases e2 : j + 1 = i
    · right
      exact fun q => h2 ⟨e2, q⟩
    · left
      exact e2
theorem xloc.set2 {ls : Array Slot} {nL i : Nat} {lv : List (Option Value)} {v : Value} (h : lv_has ls nL ((i, v) :: (xprs lv).filter (fun q => !(q.1 == i) && (!(q.1 == i + 1) && !(q.1 + 1 == i && q.2.category == 2))))) : xloc ls nL (xset2 lv i v) := by
  refine ⟨h.1, h.2.1, fun j w hj => ?_⟩
  unfold xset2 at hj
  by_cases e1 : j = i + 1
  · subst e1
    rw [List.getElem?_set] at hj
    simp at hj
  · rw [List.getElem?_set_ne (Ne.symm e1)] at hj
    by_cases e : j = i
    · subst e
      have hw : w = v := by
        rw [List.getElem?_set] at hj
        simp at hj
        exact hj.2.symm
      subst hw
      exact h.2.2 (j, w) List.mem_cons_self
    · rw [List.getElem?_set_ne (Ne.symm e)] at hj
      obtain ⟨h1, h2⟩ := xkill_of hj
      refine h.2.2 (j, w) (List.mem_cons_of_mem _ (List.mem_filter.mpr ⟨xprs_mem h1, ?_⟩))
      simp only [Bool.and_eq_true, Bool.not_eq_true', beq_eq_false_iff_ne, Bool.and_eq_false_iff]
      refine ⟨e, e1, ?_⟩
      by_cases e2 : j + 1 = i
      · right
        exact fun q => h2 ⟨e2, q⟩
      · left
        exact e2
def xlv : List Value → List (Option Value)
  | [] => []
  | .long x :: r => some (.long x) :: none :: xlv r
  | .double x :: r => some (.double x) :: none :: xlv r
  | v :: r => some v :: xlv r
theorem xlv_args : ∀ (av : List Value) (a i : Nat) (v : Value), (xlv av)[i]? = some (some v) → (a + i, v) ∈ lv_args a av
  | [], a, i, v, h => by simp [xlv] at h
  | w :: r, a, i, v, h => by
    have two : ∀ x : Value, x.category = 2 → (some x :: none :: xlv r)[i]? = some (some v) → (a + i, v) ∈ lv_args a (x :: r) := by
      intro x hx h
      match i, h with
      | 0, h =>
        cases h
        exact List.mem_cons_self
      | 1, h => cases h
      | i + 2, h =>
        have h1 := xlv_args r (a + 2) i v (by simpa using h)
        unfold lv_args
        rw [if_pos hx, show a + (i + 2) = a + 2 + i by omega]
        exact List.mem_cons_of_mem _ h1
    have one : ∀ x : Value, ¬ x.category = 2 → (some x :: xlv r)[i]? = some (some v) → (a + i, v) ∈ lv_args a (x :: r) := by
      intro x hx h
      match i, h with
      | 0, h =>
        cases h
        exact List.mem_cons_self
      | i + 1, h =>
        have h1 := xlv_args r (a + 1) i v (by simpa using h)
        unfold lv_args
        rw [if_neg hx, show a + (i + 1) = a + 1 + i by omega]
        exact List.mem_cons_of_mem _ h1
    cases w with
    | long x => exact two _ rfl h
    | double x => exact two _ rfl h
    | _ => exact one _ (by simp [Value.category]) h
abbrev xM_T : Type := Program × Launch × Env × Room × State × MethodId × Array Value × List Frame × Method × Code × (State → Prop)
abbrev xT_T : Type := xM_T × xG_T × (Nat → Prop) × Nat × Nat × Nat × xP_T
def X (Θ : xT_T) (ce sl n : Nat) (Ty : Nat → xs_T) (I : xI_T) (L : xL_T) (F : xF_T) (pc : Nat) (lv : List (Option Value)) (st : List Value) : Prop := match Θ with
  | ((p, l, e, R, s, m, args, below, meth, c, Qx), G, own, nL, mc, ms, post) => ∀ (H : Heap) (locs : List Loc) (ls : Array Slot), Wd G own n Ty I L F H → va_S (xA G own) s.heap H locs → xloc ls nL lv → W p l e R s m args below meth c H locs ce sl Qx (F0 m pc ls st)
def XOk (Θ : xT_T) (l : Launch) (cls : String) (cc : ByteArray) (nL k mc ms : Nat) (ret : Option FieldType) (nm : String) (G : xG_T) (own : Nat → Prop) (post : xP_T) : Prop := match Θ with
  | ((p, l', e, R, s, m, args, below, meth, c, Qx), G', own', nL', mc', ms', post') => (l = l' ∧ G = G' ∧ own = own' ∧ nL = nL' ∧ mc = mc' ∧ ms = ms' ∧ post = post') ∧ p.tables.exec = Jvm.exec ∧ c.code = cc ∧ c.maxLocals = nL ∧ s.vm.findClass cls = some m.cls ∧ (∀ w ∈ lw_all, w.before args s = true) ∧ xKK G s ∧ va_K G.1 xcl (xtys G.2.1) s ∧ meth.sig.returnType = ret ∧ meth.locks = false ∧ R = xrm k mc ms ∧ meth.name = nm ∧ xb G ≤ s.heap.size ∧ ∀ t : State, MQ below (xQ G own post) args s mc ms (xA G own) t → Qx t
set_option maxHeartbeats 1000000 in
theorem Cg.intro {l : Launch} {k mc ms : Nat} {y : MethodName} {cc : ByteArray} {nL : Nat} {ret : Option FieldType} {G : xG_T} {own : Nat → Prop} {av : List Value} {n : Nat} {Ty : Nat → xs_T} {I : xI_T} {L : xL_T} {F : xF_T} {post : xP_T} {lv : List (Option Value)} {cls : String} {pad : Nat} (hcls : y.cls = cls) (hy : plainName cls = true) (hlen : (lg_sl av).length ≤ nL) (hlv : xlv av ++ List.replicate pad none = lv)
    (body : ∀ Θ : xT_T, XOk Θ l cls cc nL k mc ms ret y.name G own post → X Θ 0 0 n Ty I L F 0 lv []) : Cg l k mc ms y cc nL ret G own av n Ty I L F post := by
  subst hcls
  refine Met.ofW (cc := cc) (maxL := nL) (ret := ret) hy rfl ?_
  intro p e s m args below meth c s₁ B hml hv
  obtain ⟨rfl, hw, hK⟩ := hv
  have hts := atoms_spec (ws := ws_ y cc nL ret) B.pre
  have hts : ∀ w ∈ lw_all, w.before av.toArray s = true := fun w h => hts w (List.mem_cons_of_mem _ h)
  have hown : s.vm.findClass y.cls = some m.cls := findClass_of_methodNamed B.named
  have hl := lv_entry av (n := nL) hlen
  rw [lg_entry_eq]
  generalize (lg_sl av ++ List.replicate (nL - (lg_sl av).length) Slot.unset).toArray = ls at hl ⊢
  have hx : xloc ls nL lv := ⟨hl.1, hl.2.1, fun i v h => hl.2.2 (i, v) (by
    subst hlv
    have h2 : (xlv av)[i]? = some (some v) := by
      by_cases hi : i < (xlv av).length
      · rw [List.getElem?_append_left hi] at h
        exact h
      · rw [List.getElem?_append_right (Nat.not_lt.mp hi), List.getElem?_replicate] at h
        split at h <;> cases h
    have h1 := xlv_args av 0 i v h2
    rwa [Nat.zero_add] at h1)⟩
  exact body ((p, l, e, _, s, m, av.toArray, below, meth, c, MQ below (xQ G own post) av.toArray s mc ms (xA G own)), G, own, nL, mc, ms, post) ⟨⟨rfl, rfl, rfl, rfl, rfl, rfl, rfl⟩, B.exec, B.bytes, hml, hown, hts, hK, hK.K, B.returns, B.notSynchronized, rfl, (name_of_methodNamed B.named B.method).1, by rw [hw.1]; exact Nat.le_add_right _ _, fun _ h => h⟩ s.heap [] ls hw va_S.rf hx
section XR
variable {Θ : xT_T} {l : Launch} {cls : String} {cc : ByteArray} {nL k mc ms : Nat} {ret : Option FieldType} {nm : String} {G : xG_T} {own : Nat → Prop} {post : xP_T} {ce sl n : Nat} {Ty : Nat → xs_T} {I : xI_T} {L : xL_T} {F : xF_T} {pc : Nat} {lv : List (Option Value)} {st : List Value}
theorem x_iconst (h : XOk Θ l cls cc nL k mc ms ret nm G own post) {z : Int} (d : decode cc pc = .ok (.iconst z, 1)) (v : Int32) (hv : Int32.ofInt z = v) (kk : X Θ ce sl n Ty I L F (pc + 1) lv (.int v :: st)) : X Θ ce sl n Ty I L F pc lv st := by
  obtain ⟨⟨p, l9, e, R, s, m, args, below, meth, c, Qx⟩, G9, own9, nL9, mc9, ms9, post9⟩ := Θ
  obtain ⟨⟨rfl, rfl, rfl, rfl, rfl, rfl, rfl⟩, hx, hb, hml, hown, hts, hKK, hK, hr, hlk, rfl, hnm, hsz, hmq⟩ := h
  intro H locs ls hw hS hl
  exact lv_iconst hx hb d hv (kk H locs ls hw hS hl)
theorem x_bipush (h : XOk Θ l cls cc nL k mc ms ret nm G own post) {z : Int} (d : decode cc pc = .ok (.bipush z, 2)) (v : Int32) (hv : (Int8.ofInt z).toInt32 = v) (kk : X Θ ce sl n Ty I L F (pc + 2) lv (.int v :: st)) : X Θ ce sl n Ty I L F pc lv st := by
  obtain ⟨⟨p, l9, e, R, s, m, args, below, meth, c, Qx⟩, G9, own9, nL9, mc9, ms9, post9⟩ := Θ
  obtain ⟨⟨rfl, rfl, rfl, rfl, rfl, rfl, rfl⟩, hx, hb, hml, hown, hts, hKK, hK, hr, hlk, rfl, hnm, hsz, hmq⟩ := h
  intro H locs ls hw hS hl
  exact lv_bipush hx hb d hv (kk H locs ls hw hS hl)
theorem x_sipush (h : XOk Θ l cls cc nL k mc ms ret nm G own post) {z : Int} (d : decode cc pc = .ok (.sipush z, 3)) (v : Int32) (hv : (Int16.ofInt z).toInt32 = v) (kk : X Θ ce sl n Ty I L F (pc + 3) lv (.int v :: st)) : X Θ ce sl n Ty I L F pc lv st := by
  obtain ⟨⟨p, l9, e, R, s, m, args, below, meth, c, Qx⟩, G9, own9, nL9, mc9, ms9, post9⟩ := Θ
  obtain ⟨⟨rfl, rfl, rfl, rfl, rfl, rfl, rfl⟩, hx, hb, hml, hown, hts, hKK, hK, hr, hlk, rfl, hnm, hsz, hmq⟩ := h
  intro H locs ls hw hS hl
  exact lv_sipush hx hb d hv (kk H locs ls hw hS hl)
theorem x_lconst (h : XOk Θ l cls cc nL k mc ms ret nm G own post) {z : Fin 2} (d : decode cc pc = .ok (.lconst z, 1)) (v : Int64) (hv : Int64.ofNat (z : Nat) = v) (kk : X Θ ce sl n Ty I L F (pc + 1) lv (.long v :: st)) : X Θ ce sl n Ty I L F pc lv st := by
  obtain ⟨⟨p, l9, e, R, s, m, args, below, meth, c, Qx⟩, G9, own9, nL9, mc9, ms9, post9⟩ := Θ
  obtain ⟨⟨rfl, rfl, rfl, rfl, rfl, rfl, rfl⟩, hx, hb, hml, hown, hts, hKK, hK, hr, hlk, rfl, hnm, hsz, hmq⟩ := h
  intro H locs ls hw hS hl
  exact lv_lconst hx hb d hv (kk H locs ls hw hS hl)
theorem x_null (h : XOk Θ l cls cc nL k mc ms ret nm G own post)  (d : decode cc pc = .ok (.aconst_null, 1)) (kk : X Θ ce sl n Ty I L F (pc + 1) lv (.null :: st)) : X Θ ce sl n Ty I L F pc lv st := by
  obtain ⟨⟨p, l9, e, R, s, m, args, below, meth, c, Qx⟩, G9, own9, nL9, mc9, ms9, post9⟩ := Θ
  obtain ⟨⟨rfl, rfl, rfl, rfl, rfl, rfl, rfl⟩, hx, hb, hml, hown, hts, hKK, hK, hr, hlk, rfl, hnm, hsz, hmq⟩ := h
  intro H locs ls hw hS hl
  exact lv_null hx hb d (kk H locs ls hw hS hl)
theorem x_ldc (h : XOk Θ l cls cc nL k mc ms ret nm G own post) {idx : Nat} {v : Int32} (d : decode cc pc = .ok (.ldc idx, 2)) (q : Jvm.Cond.constant cls idx v ∈ lw_all) (kk : X Θ ce sl n Ty I L F (pc + 2) lv (.int v :: st)) : X Θ ce sl n Ty I L F pc lv st := by
  obtain ⟨⟨p, l9, e, R, s, m, args, below, meth, c, Qx⟩, G9, own9, nL9, mc9, ms9, post9⟩ := Θ
  obtain ⟨⟨rfl, rfl, rfl, rfl, rfl, rfl, rfl⟩, hx, hb, hml, hown, hts, hKK, hK, hr, hlk, rfl, hnm, hsz, hmq⟩ := h
  intro H locs ls hw hS hl
  exact lv_ldc hx hb hown (hts _ q) d (kk H locs ls hw hS hl)
theorem x_ldcw (h : XOk Θ l cls cc nL k mc ms ret nm G own post) {idx : Nat} {v : Int32} (d : decode cc pc = .ok (.ldc_w idx, 3)) (q : Jvm.Cond.constant cls idx v ∈ lw_all) (kk : X Θ ce sl n Ty I L F (pc + 3) lv (.int v :: st)) : X Θ ce sl n Ty I L F pc lv st := by
  obtain ⟨⟨p, l9, e, R, s, m, args, below, meth, c, Qx⟩, G9, own9, nL9, mc9, ms9, post9⟩ := Θ
  obtain ⟨⟨rfl, rfl, rfl, rfl, rfl, rfl, rfl⟩, hx, hb, hml, hown, hts, hKK, hK, hr, hlk, rfl, hnm, hsz, hmq⟩ := h
  intro H locs ls hw hS hl
  exact lv_ldcw hx hb hown (hts _ q) d (kk H locs ls hw hS hl)
theorem x_ldc2 (h : XOk Θ l cls cc nL k mc ms ret nm G own post) {idx : Nat} {v : Int64} (d : decode cc pc = .ok (.ldc2_w idx, 3)) (q : Jvm.Cond.constantLong cls idx v ∈ lw_all) (kk : X Θ ce sl n Ty I L F (pc + 3) lv (.long v :: st)) : X Θ ce sl n Ty I L F pc lv st := by
  obtain ⟨⟨p, l9, e, R, s, m, args, below, meth, c, Qx⟩, G9, own9, nL9, mc9, ms9, post9⟩ := Θ
  obtain ⟨⟨rfl, rfl, rfl, rfl, rfl, rfl, rfl⟩, hx, hb, hml, hown, hts, hKK, hK, hr, hlk, rfl, hnm, hsz, hmq⟩ := h
  intro H locs ls hw hS hl
  exact lv_ldc2 hx hb hown (hts _ q) d (kk H locs ls hw hS hl)
theorem x_iload_n (h : XOk Θ l cls cc nL k mc ms ret nm G own post) {j : Fin 4} {x : Int32} (d : decode cc pc = .ok (.iload_n j, 1)) (hv : lv[(j : Nat)]? = some (some (.int x))) (kk : X Θ ce sl n Ty I L F (pc + 1) lv (.int x :: st)) : X Θ ce sl n Ty I L F pc lv st := by
  obtain ⟨⟨p, l9, e, R, s, m, args, below, meth, c, Qx⟩, G9, own9, nL9, mc9, ms9, post9⟩ := Θ
  obtain ⟨⟨rfl, rfl, rfl, rfl, rfl, rfl, rfl⟩, hx, hb, hml, hown, hts, hKK, hK, hr, hlk, rfl, hnm, hsz, hmq⟩ := h
  intro H locs ls hw hS hl
  exact lv_iload_n hx hb d rfl (hl.2.2 _ _ hv) (kk H locs ls hw hS hl)
theorem x_iload (h : XOk Θ l cls cc nL k mc ms ret nm G own post) {j : Nat} {x : Int32} (d : decode cc pc = .ok (.iload j, 2)) (hv : lv[j]? = some (some (.int x))) (kk : X Θ ce sl n Ty I L F (pc + 2) lv (.int x :: st)) : X Θ ce sl n Ty I L F pc lv st := by
  obtain ⟨⟨p, l9, e, R, s, m, args, below, meth, c, Qx⟩, G9, own9, nL9, mc9, ms9, post9⟩ := Θ
  obtain ⟨⟨rfl, rfl, rfl, rfl, rfl, rfl, rfl⟩, hx, hb, hml, hown, hts, hKK, hK, hr, hlk, rfl, hnm, hsz, hmq⟩ := h
  intro H locs ls hw hS hl
  exact lv_iload hx hb d (hl.2.2 _ _ hv) (kk H locs ls hw hS hl)
theorem x_lload_n (h : XOk Θ l cls cc nL k mc ms ret nm G own post) {j : Fin 4} {x : Int64} (d : decode cc pc = .ok (.lload_n j, 1)) (hv : lv[(j : Nat)]? = some (some (.long x))) (kk : X Θ ce sl n Ty I L F (pc + 1) lv (.long x :: st)) : X Θ ce sl n Ty I L F pc lv st := by
  obtain ⟨⟨p, l9, e, R, s, m, args, below, meth, c, Qx⟩, G9, own9, nL9, mc9, ms9, post9⟩ := Θ
  obtain ⟨⟨rfl, rfl, rfl, rfl, rfl, rfl, rfl⟩, hx, hb, hml, hown, hts, hKK, hK, hr, hlk, rfl, hnm, hsz, hmq⟩ := h
  intro H locs ls hw hS hl
  exact lv_lload_n hx hb d rfl (hl.2.2 _ _ hv) (kk H locs ls hw hS hl)
theorem x_lload (h : XOk Θ l cls cc nL k mc ms ret nm G own post) {j : Nat} {x : Int64} (d : decode cc pc = .ok (.lload j, 2)) (hv : lv[j]? = some (some (.long x))) (kk : X Θ ce sl n Ty I L F (pc + 2) lv (.long x :: st)) : X Θ ce sl n Ty I L F pc lv st := by
  obtain ⟨⟨p, l9, e, R, s, m, args, below, meth, c, Qx⟩, G9, own9, nL9, mc9, ms9, post9⟩ := Θ
  obtain ⟨⟨rfl, rfl, rfl, rfl, rfl, rfl, rfl⟩, hx, hb, hml, hown, hts, hKK, hK, hr, hlk, rfl, hnm, hsz, hmq⟩ := h
  intro H locs ls hw hS hl
  exact lv_lload hx hb d (hl.2.2 _ _ hv) (kk H locs ls hw hS hl)
theorem x_aload_n (h : XOk Θ l cls cc nL k mc ms ret nm G own post) {j : Fin 4} {x : Nat} (d : decode cc pc = .ok (.aload_n j, 1)) (hv : lv[(j : Nat)]? = some (some (.ref x))) (kk : X Θ ce sl n Ty I L F (pc + 1) lv (.ref x :: st)) : X Θ ce sl n Ty I L F pc lv st := by
  obtain ⟨⟨p, l9, e, R, s, m, args, below, meth, c, Qx⟩, G9, own9, nL9, mc9, ms9, post9⟩ := Θ
  obtain ⟨⟨rfl, rfl, rfl, rfl, rfl, rfl, rfl⟩, hx, hb, hml, hown, hts, hKK, hK, hr, hlk, rfl, hnm, hsz, hmq⟩ := h
  intro H locs ls hw hS hl
  exact lv_aload_n hx hb d rfl (hl.2.2 _ _ hv) (kk H locs ls hw hS hl)
theorem x_aload (h : XOk Θ l cls cc nL k mc ms ret nm G own post) {j : Nat} {x : Nat} (d : decode cc pc = .ok (.aload j, 2)) (hv : lv[j]? = some (some (.ref x))) (kk : X Θ ce sl n Ty I L F (pc + 2) lv (.ref x :: st)) : X Θ ce sl n Ty I L F pc lv st := by
  obtain ⟨⟨p, l9, e, R, s, m, args, below, meth, c, Qx⟩, G9, own9, nL9, mc9, ms9, post9⟩ := Θ
  obtain ⟨⟨rfl, rfl, rfl, rfl, rfl, rfl, rfl⟩, hx, hb, hml, hown, hts, hKK, hK, hr, hlk, rfl, hnm, hsz, hmq⟩ := h
  intro H locs ls hw hS hl
  exact lv_aload hx hb d (hl.2.2 _ _ hv) (kk H locs ls hw hS hl)
theorem x_aload_nN (h : XOk Θ l cls cc nL k mc ms ret nm G own post) {j : Fin 4} (d : decode cc pc = .ok (.aload_n j, 1)) (hv : lv[(j : Nat)]? = some (some .null)) (kk : X Θ ce sl n Ty I L F (pc + 1) lv (.null :: st)) : X Θ ce sl n Ty I L F pc lv st := by
  obtain ⟨⟨p, l9, e, R, s, m, args, below, meth, c, Qx⟩, G9, own9, nL9, mc9, ms9, post9⟩ := Θ
  obtain ⟨⟨rfl, rfl, rfl, rfl, rfl, rfl, rfl⟩, hx, hb, hml, hown, hts, hKK, hK, hr, hlk, rfl, hnm, hsz, hmq⟩ := h
  intro H locs ls hw hS hl
  exact lv_aload_nN hx hb d rfl (hl.2.2 _ _ hv) (kk H locs ls hw hS hl)
theorem x_aloadN (h : XOk Θ l cls cc nL k mc ms ret nm G own post) {j : Nat} (d : decode cc pc = .ok (.aload j, 2)) (hv : lv[j]? = some (some .null)) (kk : X Θ ce sl n Ty I L F (pc + 2) lv (.null :: st)) : X Θ ce sl n Ty I L F pc lv st := by
  obtain ⟨⟨p, l9, e, R, s, m, args, below, meth, c, Qx⟩, G9, own9, nL9, mc9, ms9, post9⟩ := Θ
  obtain ⟨⟨rfl, rfl, rfl, rfl, rfl, rfl, rfl⟩, hx, hb, hml, hown, hts, hKK, hK, hr, hlk, rfl, hnm, hsz, hmq⟩ := h
  intro H locs ls hw hS hl
  exact lv_aloadN hx hb d (hl.2.2 _ _ hv) (kk H locs ls hw hS hl)
theorem x_istore_n (h : XOk Θ l cls cc nL k mc ms ret nm G own post) {i : Fin 4} {j : Nat} {x : Int32} (d : decode cc pc = .ok (.istore_n i, 1)) (hi : (i : Nat) = j) (hn : j < nL) (lv' : List (Option Value)) (hv : xset1 lv j (.int x) = lv') (kk : X Θ ce sl n Ty I L F (pc + 1) lv' st) : X Θ ce sl n Ty I L F pc lv (.int x :: st) := by
  obtain ⟨⟨p, l9, e, R, s, m, args, below, meth, c, Qx⟩, G9, own9, nL9, mc9, ms9, post9⟩ := Θ
  obtain ⟨⟨rfl, rfl, rfl, rfl, rfl, rfl, rfl⟩, hx, hb, hml, hown, hts, hKK, hK, hr, hlk, rfl, hnm, hsz, hmq⟩ := h
  intro H locs ls hw hS hl
  subst hv
  exact lv_istore_n hx hb d hi hl.has hn rfl (fun ls' hl' => kk H locs ls' hw hS (xloc.set1 hl'))
theorem x_istore (h : XOk Θ l cls cc nL k mc ms ret nm G own post) {j : Nat} {x : Int32} (d : decode cc pc = .ok (.istore j, 2)) (hn : j < nL) (lv' : List (Option Value)) (hv : xset1 lv j (.int x) = lv') (kk : X Θ ce sl n Ty I L F (pc + 2) lv' st) : X Θ ce sl n Ty I L F pc lv (.int x :: st) := by
  obtain ⟨⟨p, l9, e, R, s, m, args, below, meth, c, Qx⟩, G9, own9, nL9, mc9, ms9, post9⟩ := Θ
  obtain ⟨⟨rfl, rfl, rfl, rfl, rfl, rfl, rfl⟩, hx, hb, hml, hown, hts, hKK, hK, hr, hlk, rfl, hnm, hsz, hmq⟩ := h
  intro H locs ls hw hS hl
  subst hv
  exact lv_istore hx hb d hl.has hn rfl (fun ls' hl' => kk H locs ls' hw hS (xloc.set1 hl'))
theorem x_lstore_n (h : XOk Θ l cls cc nL k mc ms ret nm G own post) {i : Fin 4} {j : Nat} {x : Int64} (d : decode cc pc = .ok (.lstore_n i, 1)) (hi : (i : Nat) = j) (hn : j + 1 < nL) (lv' : List (Option Value)) (hv : xset2 lv j (.long x) = lv') (kk : X Θ ce sl n Ty I L F (pc + 1) lv' st) : X Θ ce sl n Ty I L F pc lv (.long x :: st) := by
  obtain ⟨⟨p, l9, e, R, s, m, args, below, meth, c, Qx⟩, G9, own9, nL9, mc9, ms9, post9⟩ := Θ
  obtain ⟨⟨rfl, rfl, rfl, rfl, rfl, rfl, rfl⟩, hx, hb, hml, hown, hts, hKK, hK, hr, hlk, rfl, hnm, hsz, hmq⟩ := h
  intro H locs ls hw hS hl
  subst hv
  exact lv_lstore_n hx hb d hi hl.has hn rfl (fun ls' hl' => kk H locs ls' hw hS (xloc.set2 hl'))
theorem x_lstore (h : XOk Θ l cls cc nL k mc ms ret nm G own post) {j : Nat} {x : Int64} (d : decode cc pc = .ok (.lstore j, 2)) (hn : j + 1 < nL) (lv' : List (Option Value)) (hv : xset2 lv j (.long x) = lv') (kk : X Θ ce sl n Ty I L F (pc + 2) lv' st) : X Θ ce sl n Ty I L F pc lv (.long x :: st) := by
  obtain ⟨⟨p, l9, e, R, s, m, args, below, meth, c, Qx⟩, G9, own9, nL9, mc9, ms9, post9⟩ := Θ
  obtain ⟨⟨rfl, rfl, rfl, rfl, rfl, rfl, rfl⟩, hx, hb, hml, hown, hts, hKK, hK, hr, hlk, rfl, hnm, hsz, hmq⟩ := h
  intro H locs ls hw hS hl
  subst hv
  exact lv_lstore hx hb d hl.has hn rfl (fun ls' hl' => kk H locs ls' hw hS (xloc.set2 hl'))
theorem x_astore_n (h : XOk Θ l cls cc nL k mc ms ret nm G own post) {i : Fin 4} {j : Nat} {x : Nat} (d : decode cc pc = .ok (.astore_n i, 1)) (hi : (i : Nat) = j) (hn : j < nL) (lv' : List (Option Value)) (hv : xset1 lv j (.ref x) = lv') (kk : X Θ ce sl n Ty I L F (pc + 1) lv' st) : X Θ ce sl n Ty I L F pc lv (.ref x :: st) := by
  obtain ⟨⟨p, l9, e, R, s, m, args, below, meth, c, Qx⟩, G9, own9, nL9, mc9, ms9, post9⟩ := Θ
  obtain ⟨⟨rfl, rfl, rfl, rfl, rfl, rfl, rfl⟩, hx, hb, hml, hown, hts, hKK, hK, hr, hlk, rfl, hnm, hsz, hmq⟩ := h
  intro H locs ls hw hS hl
  subst hv
  exact lv_astore_n hx hb d hi hl.has hn rfl (fun ls' hl' => kk H locs ls' hw hS (xloc.set1 hl'))
theorem x_astore (h : XOk Θ l cls cc nL k mc ms ret nm G own post) {j : Nat} {x : Nat} (d : decode cc pc = .ok (.astore j, 2)) (hn : j < nL) (lv' : List (Option Value)) (hv : xset1 lv j (.ref x) = lv') (kk : X Θ ce sl n Ty I L F (pc + 2) lv' st) : X Θ ce sl n Ty I L F pc lv (.ref x :: st) := by
  obtain ⟨⟨p, l9, e, R, s, m, args, below, meth, c, Qx⟩, G9, own9, nL9, mc9, ms9, post9⟩ := Θ
  obtain ⟨⟨rfl, rfl, rfl, rfl, rfl, rfl, rfl⟩, hx, hb, hml, hown, hts, hKK, hK, hr, hlk, rfl, hnm, hsz, hmq⟩ := h
  intro H locs ls hw hS hl
  subst hv
  exact lv_astore hx hb d hl.has hn rfl (fun ls' hl' => kk H locs ls' hw hS (xloc.set1 hl'))
theorem x_astore_nN (h : XOk Θ l cls cc nL k mc ms ret nm G own post) {i : Fin 4} {j : Nat} (d : decode cc pc = .ok (.astore_n i, 1)) (hi : (i : Nat) = j) (hn : j < nL) (lv' : List (Option Value)) (hv : xset1 lv j .null = lv') (kk : X Θ ce sl n Ty I L F (pc + 1) lv' st) : X Θ ce sl n Ty I L F pc lv (.null :: st) := by
  obtain ⟨⟨p, l9, e, R, s, m, args, below, meth, c, Qx⟩, G9, own9, nL9, mc9, ms9, post9⟩ := Θ
  obtain ⟨⟨rfl, rfl, rfl, rfl, rfl, rfl, rfl⟩, hx, hb, hml, hown, hts, hKK, hK, hr, hlk, rfl, hnm, hsz, hmq⟩ := h
  intro H locs ls hw hS hl
  subst hv
  exact lv_astore_nN hx hb d hi hl.has hn rfl (fun ls' hl' => kk H locs ls' hw hS (xloc.set1 hl'))
theorem x_astoreN (h : XOk Θ l cls cc nL k mc ms ret nm G own post) {j : Nat} (d : decode cc pc = .ok (.astore j, 2)) (hn : j < nL) (lv' : List (Option Value)) (hv : xset1 lv j .null = lv') (kk : X Θ ce sl n Ty I L F (pc + 2) lv' st) : X Θ ce sl n Ty I L F pc lv (.null :: st) := by
  obtain ⟨⟨p, l9, e, R, s, m, args, below, meth, c, Qx⟩, G9, own9, nL9, mc9, ms9, post9⟩ := Θ
  obtain ⟨⟨rfl, rfl, rfl, rfl, rfl, rfl, rfl⟩, hx, hb, hml, hown, hts, hKK, hK, hr, hlk, rfl, hnm, hsz, hmq⟩ := h
  intro H locs ls hw hS hl
  subst hv
  exact lv_astoreN hx hb d hl.has hn rfl (fun ls' hl' => kk H locs ls' hw hS (xloc.set1 hl'))
theorem xprs_at {lv : List (Option Value)} {i : Nat} {v : Value} (h : lv[i]? = some (some v)) : ∃ j : Nat, (xprs lv)[j]? = some (i, v) := List.getElem?_of_mem (xprs_mem h)
theorem x_iinc (h : XOk Θ l cls cc nL k mc ms ret nm G own post) {j : Nat} {z : Int} {x : Int32} (d : decode cc pc = .ok (.iinc j z, 3)) (hn : j < nL) (hx0 : lv[j]? = some (some (.int x))) (v : Int32) (hv0 : x + Int32.ofInt z = v) (lv' : List (Option Value)) (hv : xset1 lv j (.int v) = lv') (kk : X Θ ce sl n Ty I L F (pc + 3) lv' st) : X Θ ce sl n Ty I L F pc lv st := by
  obtain ⟨⟨p, l9, e, R, s, m, args, below, meth, c, Qx⟩, G9, own9, nL9, mc9, ms9, post9⟩ := Θ
  obtain ⟨⟨rfl, rfl, rfl, rfl, rfl, rfl, rfl⟩, hx, hb, hml, hown, hts, hKK, hK, hr, hlk, rfl, hnm, hsz, hmq⟩ := h
  intro H locs ls hw hS hl
  subst hv
  obtain ⟨a, ha⟩ := xprs_at hx0
  exact lv_iinc hx hb d hl.has ha hv0 hn rfl (fun ls' hl' => kk H locs ls' hw hS (xloc.set1 hl'))
theorem x_iadd (h : XOk Θ l cls cc nL k mc ms ret nm G own post) {x y : Int32} (d : decode cc pc = .ok (.iadd, 1)) (kk : X Θ ce sl n Ty I L F (pc + 1) lv (.int (x + y) :: st)) : X Θ ce sl n Ty I L F pc lv (.int y :: .int x :: st) := by
  obtain ⟨⟨p, l9, e, R, s, m, args, below, meth, c, Qx⟩, G9, own9, nL9, mc9, ms9, post9⟩ := Θ
  obtain ⟨⟨rfl, rfl, rfl, rfl, rfl, rfl, rfl⟩, hx, hb, hml, hown, hts, hKK, hK, hr, hlk, rfl, hnm, hsz, hmq⟩ := h
  intro H locs ls hw hS hl
  exact lv_iadd hx hb d (kk H locs ls hw hS hl)
theorem x_isub (h : XOk Θ l cls cc nL k mc ms ret nm G own post) {x y : Int32} (d : decode cc pc = .ok (.isub, 1)) (kk : X Θ ce sl n Ty I L F (pc + 1) lv (.int (x - y) :: st)) : X Θ ce sl n Ty I L F pc lv (.int y :: .int x :: st) := by
  obtain ⟨⟨p, l9, e, R, s, m, args, below, meth, c, Qx⟩, G9, own9, nL9, mc9, ms9, post9⟩ := Θ
  obtain ⟨⟨rfl, rfl, rfl, rfl, rfl, rfl, rfl⟩, hx, hb, hml, hown, hts, hKK, hK, hr, hlk, rfl, hnm, hsz, hmq⟩ := h
  intro H locs ls hw hS hl
  exact lv_isub hx hb d (kk H locs ls hw hS hl)
theorem x_imul (h : XOk Θ l cls cc nL k mc ms ret nm G own post) {x y : Int32} (d : decode cc pc = .ok (.imul, 1)) (kk : X Θ ce sl n Ty I L F (pc + 1) lv (.int (x * y) :: st)) : X Θ ce sl n Ty I L F pc lv (.int y :: .int x :: st) := by
  obtain ⟨⟨p, l9, e, R, s, m, args, below, meth, c, Qx⟩, G9, own9, nL9, mc9, ms9, post9⟩ := Θ
  obtain ⟨⟨rfl, rfl, rfl, rfl, rfl, rfl, rfl⟩, hx, hb, hml, hown, hts, hKK, hK, hr, hlk, rfl, hnm, hsz, hmq⟩ := h
  intro H locs ls hw hS hl
  exact lv_imul hx hb d (kk H locs ls hw hS hl)
theorem x_iand (h : XOk Θ l cls cc nL k mc ms ret nm G own post) {x y : Int32} (d : decode cc pc = .ok (.iand, 1)) (kk : X Θ ce sl n Ty I L F (pc + 1) lv (.int (x &&& y) :: st)) : X Θ ce sl n Ty I L F pc lv (.int y :: .int x :: st) := by
  obtain ⟨⟨p, l9, e, R, s, m, args, below, meth, c, Qx⟩, G9, own9, nL9, mc9, ms9, post9⟩ := Θ
  obtain ⟨⟨rfl, rfl, rfl, rfl, rfl, rfl, rfl⟩, hx, hb, hml, hown, hts, hKK, hK, hr, hlk, rfl, hnm, hsz, hmq⟩ := h
  intro H locs ls hw hS hl
  exact lv_iand hx hb d (kk H locs ls hw hS hl)
theorem x_ior (h : XOk Θ l cls cc nL k mc ms ret nm G own post) {x y : Int32} (d : decode cc pc = .ok (.ior, 1)) (kk : X Θ ce sl n Ty I L F (pc + 1) lv (.int (x ||| y) :: st)) : X Θ ce sl n Ty I L F pc lv (.int y :: .int x :: st) := by
  obtain ⟨⟨p, l9, e, R, s, m, args, below, meth, c, Qx⟩, G9, own9, nL9, mc9, ms9, post9⟩ := Θ
  obtain ⟨⟨rfl, rfl, rfl, rfl, rfl, rfl, rfl⟩, hx, hb, hml, hown, hts, hKK, hK, hr, hlk, rfl, hnm, hsz, hmq⟩ := h
  intro H locs ls hw hS hl
  exact lv_ior hx hb d (kk H locs ls hw hS hl)
theorem x_ixor (h : XOk Θ l cls cc nL k mc ms ret nm G own post) {x y : Int32} (d : decode cc pc = .ok (.ixor, 1)) (kk : X Θ ce sl n Ty I L F (pc + 1) lv (.int (x ^^^ y) :: st)) : X Θ ce sl n Ty I L F pc lv (.int y :: .int x :: st) := by
  obtain ⟨⟨p, l9, e, R, s, m, args, below, meth, c, Qx⟩, G9, own9, nL9, mc9, ms9, post9⟩ := Θ
  obtain ⟨⟨rfl, rfl, rfl, rfl, rfl, rfl, rfl⟩, hx, hb, hml, hown, hts, hKK, hK, hr, hlk, rfl, hnm, hsz, hmq⟩ := h
  intro H locs ls hw hS hl
  exact lv_ixor hx hb d (kk H locs ls hw hS hl)
theorem x_ishl (h : XOk Θ l cls cc nL k mc ms ret nm G own post) {x y : Int32} (d : decode cc pc = .ok (.ishl, 1)) (kk : X Θ ce sl n Ty I L F (pc + 1) lv (.int (x <<< (y &&& 31)) :: st)) : X Θ ce sl n Ty I L F pc lv (.int y :: .int x :: st) := by
  obtain ⟨⟨p, l9, e, R, s, m, args, below, meth, c, Qx⟩, G9, own9, nL9, mc9, ms9, post9⟩ := Θ
  obtain ⟨⟨rfl, rfl, rfl, rfl, rfl, rfl, rfl⟩, hx, hb, hml, hown, hts, hKK, hK, hr, hlk, rfl, hnm, hsz, hmq⟩ := h
  intro H locs ls hw hS hl
  exact lv_ishl hx hb d (kk H locs ls hw hS hl)
theorem x_ishr (h : XOk Θ l cls cc nL k mc ms ret nm G own post) {x y : Int32} (d : decode cc pc = .ok (.ishr, 1)) (kk : X Θ ce sl n Ty I L F (pc + 1) lv (.int (x >>> (y &&& 31)) :: st)) : X Θ ce sl n Ty I L F pc lv (.int y :: .int x :: st) := by
  obtain ⟨⟨p, l9, e, R, s, m, args, below, meth, c, Qx⟩, G9, own9, nL9, mc9, ms9, post9⟩ := Θ
  obtain ⟨⟨rfl, rfl, rfl, rfl, rfl, rfl, rfl⟩, hx, hb, hml, hown, hts, hKK, hK, hr, hlk, rfl, hnm, hsz, hmq⟩ := h
  intro H locs ls hw hS hl
  exact lv_ishr hx hb d (kk H locs ls hw hS hl)
theorem x_iaddE (h : XOk Θ l cls cc nL k mc ms ret nm G own post) {x y : Int32} (v : Int32) (hv : x + y = v) (d : decode cc pc = .ok (.iadd, 1)) (kk : X Θ ce sl n Ty I L F (pc + 1) lv (.int v :: st)) : X Θ ce sl n Ty I L F pc lv (.int y :: .int x :: st) := by
  obtain ⟨⟨p, l9, e, R, s, m, args, below, meth, c, Qx⟩, G9, own9, nL9, mc9, ms9, post9⟩ := Θ
  obtain ⟨⟨rfl, rfl, rfl, rfl, rfl, rfl, rfl⟩, hx, hb, hml, hown, hts, hKK, hK, hr, hlk, rfl, hnm, hsz, hmq⟩ := h
  intro H locs ls hw hS hl
  subst hv
  exact lv_iadd hx hb d (kk H locs ls hw hS hl)
theorem x_isubE (h : XOk Θ l cls cc nL k mc ms ret nm G own post) {x y : Int32} (v : Int32) (hv : x - y = v) (d : decode cc pc = .ok (.isub, 1)) (kk : X Θ ce sl n Ty I L F (pc + 1) lv (.int v :: st)) : X Θ ce sl n Ty I L F pc lv (.int y :: .int x :: st) := by
  obtain ⟨⟨p, l9, e, R, s, m, args, below, meth, c, Qx⟩, G9, own9, nL9, mc9, ms9, post9⟩ := Θ
  obtain ⟨⟨rfl, rfl, rfl, rfl, rfl, rfl, rfl⟩, hx, hb, hml, hown, hts, hKK, hK, hr, hlk, rfl, hnm, hsz, hmq⟩ := h
  intro H locs ls hw hS hl
  subst hv
  exact lv_isub hx hb d (kk H locs ls hw hS hl)
theorem x_imulE (h : XOk Θ l cls cc nL k mc ms ret nm G own post) {x y : Int32} (v : Int32) (hv : x * y = v) (d : decode cc pc = .ok (.imul, 1)) (kk : X Θ ce sl n Ty I L F (pc + 1) lv (.int v :: st)) : X Θ ce sl n Ty I L F pc lv (.int y :: .int x :: st) := by
  obtain ⟨⟨p, l9, e, R, s, m, args, below, meth, c, Qx⟩, G9, own9, nL9, mc9, ms9, post9⟩ := Θ
  obtain ⟨⟨rfl, rfl, rfl, rfl, rfl, rfl, rfl⟩, hx, hb, hml, hown, hts, hKK, hK, hr, hlk, rfl, hnm, hsz, hmq⟩ := h
  intro H locs ls hw hS hl
  subst hv
  exact lv_imul hx hb d (kk H locs ls hw hS hl)
theorem x_ineg (h : XOk Θ l cls cc nL k mc ms ret nm G own post) {x : Int32} (d : decode cc pc = .ok (.ineg, 1)) (kk : X Θ ce sl n Ty I L F (pc + 1) lv (.int (-x) :: st)) : X Θ ce sl n Ty I L F pc lv (.int x :: st) := by
  obtain ⟨⟨p, l9, e, R, s, m, args, below, meth, c, Qx⟩, G9, own9, nL9, mc9, ms9, post9⟩ := Θ
  obtain ⟨⟨rfl, rfl, rfl, rfl, rfl, rfl, rfl⟩, hx, hb, hml, hown, hts, hKK, hK, hr, hlk, rfl, hnm, hsz, hmq⟩ := h
  intro H locs ls hw hS hl
  exact lv_ineg hx hb d (kk H locs ls hw hS hl)
theorem x_iushr (h : XOk Θ l cls cc nL k mc ms ret nm G own post) {x y : Int32} (d : decode cc pc = .ok (.iushr, 1)) (kk : X Θ ce sl n Ty I L F (pc + 1) lv (.int ((x.toUInt32 >>> (y.toUInt32 &&& Int32.toUInt32 31)).toInt32) :: st)) : X Θ ce sl n Ty I L F pc lv (.int y :: .int x :: st) := by
  obtain ⟨⟨p, l9, e, R, s, m, args, below, meth, c, Qx⟩, G9, own9, nL9, mc9, ms9, post9⟩ := Θ
  obtain ⟨⟨rfl, rfl, rfl, rfl, rfl, rfl, rfl⟩, hx, hb, hml, hown, hts, hKK, hK, hr, hlk, rfl, hnm, hsz, hmq⟩ := h
  intro H locs ls hw hS hl
  exact lv_iushr hx hb d rfl (kk H locs ls hw hS hl)
theorem x_idiv (h : XOk Θ l cls cc nL k mc ms ret nm G own post) {x y : Int32} (d : decode cc pc = .ok (.idiv, 1)) (hne : ¬ y = 0) (kk : X Θ ce sl n Ty I L F (pc + 1) lv (.int (x / y) :: st)) : X Θ ce sl n Ty I L F pc lv (.int y :: .int x :: st) := by
  obtain ⟨⟨p, l9, e, R, s, m, args, below, meth, c, Qx⟩, G9, own9, nL9, mc9, ms9, post9⟩ := Θ
  obtain ⟨⟨rfl, rfl, rfl, rfl, rfl, rfl, rfl⟩, hx, hb, hml, hown, hts, hKK, hK, hr, hlk, rfl, hnm, hsz, hmq⟩ := h
  intro H locs ls hw hS hl
  exact lv_idiv hx hb d hne (kk H locs ls hw hS hl)
theorem x_irem (h : XOk Θ l cls cc nL k mc ms ret nm G own post) {x y : Int32} (d : decode cc pc = .ok (.irem, 1)) (hne : ¬ y = 0) (kk : X Θ ce sl n Ty I L F (pc + 1) lv (.int (x - x / y * y) :: st)) : X Θ ce sl n Ty I L F pc lv (.int y :: .int x :: st) := by
  obtain ⟨⟨p, l9, e, R, s, m, args, below, meth, c, Qx⟩, G9, own9, nL9, mc9, ms9, post9⟩ := Θ
  obtain ⟨⟨rfl, rfl, rfl, rfl, rfl, rfl, rfl⟩, hx, hb, hml, hown, hts, hKK, hK, hr, hlk, rfl, hnm, hsz, hmq⟩ := h
  intro H locs ls hw hS hl
  exact lv_irem hx hb d hne (kk H locs ls hw hS hl)
theorem x_ladd (h : XOk Θ l cls cc nL k mc ms ret nm G own post) {x y : Int64} (d : decode cc pc = .ok (.ladd, 1)) (kk : X Θ ce sl n Ty I L F (pc + 1) lv (.long (x + y) :: st)) : X Θ ce sl n Ty I L F pc lv (.long y :: .long x :: st) := by
  obtain ⟨⟨p, l9, e, R, s, m, args, below, meth, c, Qx⟩, G9, own9, nL9, mc9, ms9, post9⟩ := Θ
  obtain ⟨⟨rfl, rfl, rfl, rfl, rfl, rfl, rfl⟩, hx, hb, hml, hown, hts, hKK, hK, hr, hlk, rfl, hnm, hsz, hmq⟩ := h
  intro H locs ls hw hS hl
  exact lv_ladd hx hb d (kk H locs ls hw hS hl)
theorem x_lsub (h : XOk Θ l cls cc nL k mc ms ret nm G own post) {x y : Int64} (d : decode cc pc = .ok (.lsub, 1)) (kk : X Θ ce sl n Ty I L F (pc + 1) lv (.long (x - y) :: st)) : X Θ ce sl n Ty I L F pc lv (.long y :: .long x :: st) := by
  obtain ⟨⟨p, l9, e, R, s, m, args, below, meth, c, Qx⟩, G9, own9, nL9, mc9, ms9, post9⟩ := Θ
  obtain ⟨⟨rfl, rfl, rfl, rfl, rfl, rfl, rfl⟩, hx, hb, hml, hown, hts, hKK, hK, hr, hlk, rfl, hnm, hsz, hmq⟩ := h
  intro H locs ls hw hS hl
  exact lv_lsub hx hb d (kk H locs ls hw hS hl)
theorem x_lmul (h : XOk Θ l cls cc nL k mc ms ret nm G own post) {x y : Int64} (d : decode cc pc = .ok (.lmul, 1)) (kk : X Θ ce sl n Ty I L F (pc + 1) lv (.long (x * y) :: st)) : X Θ ce sl n Ty I L F pc lv (.long y :: .long x :: st) := by
  obtain ⟨⟨p, l9, e, R, s, m, args, below, meth, c, Qx⟩, G9, own9, nL9, mc9, ms9, post9⟩ := Θ
  obtain ⟨⟨rfl, rfl, rfl, rfl, rfl, rfl, rfl⟩, hx, hb, hml, hown, hts, hKK, hK, hr, hlk, rfl, hnm, hsz, hmq⟩ := h
  intro H locs ls hw hS hl
  exact lv_lmul hx hb d (kk H locs ls hw hS hl)
theorem x_land (h : XOk Θ l cls cc nL k mc ms ret nm G own post) {x y : Int64} (d : decode cc pc = .ok (.land, 1)) (kk : X Θ ce sl n Ty I L F (pc + 1) lv (.long (x &&& y) :: st)) : X Θ ce sl n Ty I L F pc lv (.long y :: .long x :: st) := by
  obtain ⟨⟨p, l9, e, R, s, m, args, below, meth, c, Qx⟩, G9, own9, nL9, mc9, ms9, post9⟩ := Θ
  obtain ⟨⟨rfl, rfl, rfl, rfl, rfl, rfl, rfl⟩, hx, hb, hml, hown, hts, hKK, hK, hr, hlk, rfl, hnm, hsz, hmq⟩ := h
  intro H locs ls hw hS hl
  exact lv_land hx hb d (kk H locs ls hw hS hl)
theorem x_lor (h : XOk Θ l cls cc nL k mc ms ret nm G own post) {x y : Int64} (d : decode cc pc = .ok (.lor, 1)) (kk : X Θ ce sl n Ty I L F (pc + 1) lv (.long (x ||| y) :: st)) : X Θ ce sl n Ty I L F pc lv (.long y :: .long x :: st) := by
  obtain ⟨⟨p, l9, e, R, s, m, args, below, meth, c, Qx⟩, G9, own9, nL9, mc9, ms9, post9⟩ := Θ
  obtain ⟨⟨rfl, rfl, rfl, rfl, rfl, rfl, rfl⟩, hx, hb, hml, hown, hts, hKK, hK, hr, hlk, rfl, hnm, hsz, hmq⟩ := h
  intro H locs ls hw hS hl
  exact lv_lor hx hb d (kk H locs ls hw hS hl)
theorem x_lshl (h : XOk Θ l cls cc nL k mc ms ret nm G own post) {x : Int64} {y : Int32} (d : decode cc pc = .ok (.lshl, 1)) (kk : X Θ ce sl n Ty I L F (pc + 1) lv (.long (x <<< (y.toInt64 &&& 63)) :: st)) : X Θ ce sl n Ty I L F pc lv (.int y :: .long x :: st) := by
  obtain ⟨⟨p, l9, e, R, s, m, args, below, meth, c, Qx⟩, G9, own9, nL9, mc9, ms9, post9⟩ := Θ
  obtain ⟨⟨rfl, rfl, rfl, rfl, rfl, rfl, rfl⟩, hx, hb, hml, hown, hts, hKK, hK, hr, hlk, rfl, hnm, hsz, hmq⟩ := h
  intro H locs ls hw hS hl
  exact lv_lshl hx hb d rfl (kk H locs ls hw hS hl)
theorem x_lcmp (h : XOk Θ l cls cc nL k mc ms ret nm G own post) {x y : Int64} (d : decode cc pc = .ok (.lcmp, 1)) (kk : X Θ ce sl n Ty I L F (pc + 1) lv (.int (lg_cmp x y) :: st)) : X Θ ce sl n Ty I L F pc lv (.long y :: .long x :: st) := by
  obtain ⟨⟨p, l9, e, R, s, m, args, below, meth, c, Qx⟩, G9, own9, nL9, mc9, ms9, post9⟩ := Θ
  obtain ⟨⟨rfl, rfl, rfl, rfl, rfl, rfl, rfl⟩, hx, hb, hml, hown, hts, hKK, hK, hr, hlk, rfl, hnm, hsz, hmq⟩ := h
  intro H locs ls hw hS hl
  exact W.lcmp hx hb d (kk H locs ls hw hS hl)
theorem x_i2l (h : XOk Θ l cls cc nL k mc ms ret nm G own post) {x : Int32} (d : decode cc pc = .ok (.i2l, 1)) (kk : X Θ ce sl n Ty I L F (pc + 1) lv (.long x.toInt64 :: st)) : X Θ ce sl n Ty I L F pc lv (.int x :: st) := by
  obtain ⟨⟨p, l9, e, R, s, m, args, below, meth, c, Qx⟩, G9, own9, nL9, mc9, ms9, post9⟩ := Θ
  obtain ⟨⟨rfl, rfl, rfl, rfl, rfl, rfl, rfl⟩, hx, hb, hml, hown, hts, hKK, hK, hr, hlk, rfl, hnm, hsz, hmq⟩ := h
  intro H locs ls hw hS hl
  exact lv_i2l hx hb d rfl (kk H locs ls hw hS hl)
theorem x_l2i (h : XOk Θ l cls cc nL k mc ms ret nm G own post) {x : Int64} (d : decode cc pc = .ok (.l2i, 1)) (kk : X Θ ce sl n Ty I L F (pc + 1) lv (.int x.toInt32 :: st)) : X Θ ce sl n Ty I L F pc lv (.long x :: st) := by
  obtain ⟨⟨p, l9, e, R, s, m, args, below, meth, c, Qx⟩, G9, own9, nL9, mc9, ms9, post9⟩ := Θ
  obtain ⟨⟨rfl, rfl, rfl, rfl, rfl, rfl, rfl⟩, hx, hb, hml, hown, hts, hKK, hK, hr, hlk, rfl, hnm, hsz, hmq⟩ := h
  intro H locs ls hw hS hl
  exact lv_l2i hx hb d rfl (kk H locs ls hw hS hl)
theorem x_i2b (h : XOk Θ l cls cc nL k mc ms ret nm G own post) {x : Int32} (d : decode cc pc = .ok (.i2b, 1)) (kk : X Θ ce sl n Ty I L F (pc + 1) lv (.int x.toInt8.toInt32 :: st)) : X Θ ce sl n Ty I L F pc lv (.int x :: st) := by
  obtain ⟨⟨p, l9, e, R, s, m, args, below, meth, c, Qx⟩, G9, own9, nL9, mc9, ms9, post9⟩ := Θ
  obtain ⟨⟨rfl, rfl, rfl, rfl, rfl, rfl, rfl⟩, hx, hb, hml, hown, hts, hKK, hK, hr, hlk, rfl, hnm, hsz, hmq⟩ := h
  intro H locs ls hw hS hl
  exact lv_i2b hx hb d rfl (kk H locs ls hw hS hl)
theorem x_i2s (h : XOk Θ l cls cc nL k mc ms ret nm G own post) {x : Int32} (d : decode cc pc = .ok (.i2s, 1)) (kk : X Θ ce sl n Ty I L F (pc + 1) lv (.int x.toInt16.toInt32 :: st)) : X Θ ce sl n Ty I L F pc lv (.int x :: st) := by
  obtain ⟨⟨p, l9, e, R, s, m, args, below, meth, c, Qx⟩, G9, own9, nL9, mc9, ms9, post9⟩ := Θ
  obtain ⟨⟨rfl, rfl, rfl, rfl, rfl, rfl, rfl⟩, hx, hb, hml, hown, hts, hKK, hK, hr, hlk, rfl, hnm, hsz, hmq⟩ := h
  intro H locs ls hw hS hl
  exact lv_i2s hx hb d rfl (kk H locs ls hw hS hl)
theorem x_dup (h : XOk Θ l cls cc nL k mc ms ret nm G own post) {va : Value} (d : decode cc pc = .ok (.dup, 1)) (ha : va.category = 1) (kk : X Θ ce sl n Ty I L F (pc + 1) lv (va :: va :: st)) : X Θ ce sl n Ty I L F pc lv (va :: st) := by
  obtain ⟨⟨p, l9, e, R, s, m, args, below, meth, c, Qx⟩, G9, own9, nL9, mc9, ms9, post9⟩ := Θ
  obtain ⟨⟨rfl, rfl, rfl, rfl, rfl, rfl, rfl⟩, hx, hb, hml, hown, hts, hKK, hK, hr, hlk, rfl, hnm, hsz, hmq⟩ := h
  intro H locs ls hw hS hl
  exact lv_dup hx hb d ha (kk H locs ls hw hS hl)
theorem x_pop (h : XOk Θ l cls cc nL k mc ms ret nm G own post) {va : Value} (d : decode cc pc = .ok (.pop, 1)) (ha : va.category = 1) (kk : X Θ ce sl n Ty I L F (pc + 1) lv st) : X Θ ce sl n Ty I L F pc lv (va :: st) := by
  obtain ⟨⟨p, l9, e, R, s, m, args, below, meth, c, Qx⟩, G9, own9, nL9, mc9, ms9, post9⟩ := Θ
  obtain ⟨⟨rfl, rfl, rfl, rfl, rfl, rfl, rfl⟩, hx, hb, hml, hown, hts, hKK, hK, hr, hlk, rfl, hnm, hsz, hmq⟩ := h
  intro H locs ls hw hS hl
  exact lv_pop hx hb d ha (kk H locs ls hw hS hl)
theorem x_dup_x1 (h : XOk Θ l cls cc nL k mc ms ret nm G own post) {va vb : Value} (d : decode cc pc = .ok (.dup_x1, 1)) (ha : va.category = 1) (hb0 : vb.category = 1) (kk : X Θ ce sl n Ty I L F (pc + 1) lv (va :: vb :: va :: st)) : X Θ ce sl n Ty I L F pc lv (va :: vb :: st) := by
  obtain ⟨⟨p, l9, e, R, s, m, args, below, meth, c, Qx⟩, G9, own9, nL9, mc9, ms9, post9⟩ := Θ
  obtain ⟨⟨rfl, rfl, rfl, rfl, rfl, rfl, rfl⟩, hx, hb, hml, hown, hts, hKK, hK, hr, hlk, rfl, hnm, hsz, hmq⟩ := h
  intro H locs ls hw hS hl
  exact lv_dup_x1 hx hb d ha hb0 (kk H locs ls hw hS hl)
theorem x_dup2_11 (h : XOk Θ l cls cc nL k mc ms ret nm G own post) {va vb : Value} (d : decode cc pc = .ok (.dup2, 1)) (ha : va.category = 1) (hb0 : vb.category = 1) (kk : X Θ ce sl n Ty I L F (pc + 1) lv (va :: vb :: va :: vb :: st)) : X Θ ce sl n Ty I L F pc lv (va :: vb :: st) := by
  obtain ⟨⟨p, l9, e, R, s, m, args, below, meth, c, Qx⟩, G9, own9, nL9, mc9, ms9, post9⟩ := Θ
  obtain ⟨⟨rfl, rfl, rfl, rfl, rfl, rfl, rfl⟩, hx, hb, hml, hown, hts, hKK, hK, hr, hlk, rfl, hnm, hsz, hmq⟩ := h
  intro H locs ls hw hS hl
  exact lv_dup2_11 hx hb d ha hb0 (kk H locs ls hw hS hl)
theorem x_if_eq (h : XOk Θ l cls cc nL k mc ms ret nm G own post) {x : Int32} {off : Int} (tgt : Nat) (d : decode cc pc = .ok (.ifCond .eq off, 3)) (ht : (pc : Int) + off = (tgt : Int)) (kt : x = 0 → X Θ ce sl n Ty I L F tgt lv st) (kf : ¬ x = 0 → X Θ ce sl n Ty I L F (pc + 3) lv st) : X Θ ce sl n Ty I L F pc lv (.int x :: st) := by
  obtain ⟨⟨p, l9, e, R, s, m, args, below, meth, c, Qx⟩, G9, own9, nL9, mc9, ms9, post9⟩ := Θ
  obtain ⟨⟨rfl, rfl, rfl, rfl, rfl, rfl, rfl⟩, hx, hb, hml, hown, hts, hKK, hK, hr, hlk, rfl, hnm, hsz, hmq⟩ := h
  intro H locs ls hw hS hl
  exact lv_if_eq hx hb d ht (fun q => kt q H locs ls hw hS hl) (fun q => kf q H locs ls hw hS hl)
theorem x_icmp_eq (h : XOk Θ l cls cc nL k mc ms ret nm G own post) {x y : Int32} {off : Int} (tgt : Nat) (d : decode cc pc = .ok (.if_icmp .eq off, 3)) (ht : (pc : Int) + off = (tgt : Int)) (kt : x = y → X Θ ce sl n Ty I L F tgt lv st) (kf : ¬ x = y → X Θ ce sl n Ty I L F (pc + 3) lv st) : X Θ ce sl n Ty I L F pc lv (.int y :: .int x :: st) := by
  obtain ⟨⟨p, l9, e, R, s, m, args, below, meth, c, Qx⟩, G9, own9, nL9, mc9, ms9, post9⟩ := Θ
  obtain ⟨⟨rfl, rfl, rfl, rfl, rfl, rfl, rfl⟩, hx, hb, hml, hown, hts, hKK, hK, hr, hlk, rfl, hnm, hsz, hmq⟩ := h
  intro H locs ls hw hS hl
  exact lv_icmp_eq hx hb d ht (fun q => kt q H locs ls hw hS hl) (fun q => kf q H locs ls hw hS hl)
theorem x_if_ne (h : XOk Θ l cls cc nL k mc ms ret nm G own post) {x : Int32} {off : Int} (tgt : Nat) (d : decode cc pc = .ok (.ifCond .ne off, 3)) (ht : (pc : Int) + off = (tgt : Int)) (kt : ¬ x = 0 → X Θ ce sl n Ty I L F tgt lv st) (kf : x = 0 → X Θ ce sl n Ty I L F (pc + 3) lv st) : X Θ ce sl n Ty I L F pc lv (.int x :: st) := by
  obtain ⟨⟨p, l9, e, R, s, m, args, below, meth, c, Qx⟩, G9, own9, nL9, mc9, ms9, post9⟩ := Θ
  obtain ⟨⟨rfl, rfl, rfl, rfl, rfl, rfl, rfl⟩, hx, hb, hml, hown, hts, hKK, hK, hr, hlk, rfl, hnm, hsz, hmq⟩ := h
  intro H locs ls hw hS hl
  exact lv_if_ne hx hb d ht (fun q => kt q H locs ls hw hS hl) (fun q => kf q H locs ls hw hS hl)
theorem x_icmp_ne (h : XOk Θ l cls cc nL k mc ms ret nm G own post) {x y : Int32} {off : Int} (tgt : Nat) (d : decode cc pc = .ok (.if_icmp .ne off, 3)) (ht : (pc : Int) + off = (tgt : Int)) (kt : ¬ x = y → X Θ ce sl n Ty I L F tgt lv st) (kf : x = y → X Θ ce sl n Ty I L F (pc + 3) lv st) : X Θ ce sl n Ty I L F pc lv (.int y :: .int x :: st) := by
  obtain ⟨⟨p, l9, e, R, s, m, args, below, meth, c, Qx⟩, G9, own9, nL9, mc9, ms9, post9⟩ := Θ
  obtain ⟨⟨rfl, rfl, rfl, rfl, rfl, rfl, rfl⟩, hx, hb, hml, hown, hts, hKK, hK, hr, hlk, rfl, hnm, hsz, hmq⟩ := h
  intro H locs ls hw hS hl
  exact lv_icmp_ne hx hb d ht (fun q => kt q H locs ls hw hS hl) (fun q => kf q H locs ls hw hS hl)
theorem x_if_lt (h : XOk Θ l cls cc nL k mc ms ret nm G own post) {x : Int32} {off : Int} (tgt : Nat) (d : decode cc pc = .ok (.ifCond .lt off, 3)) (ht : (pc : Int) + off = (tgt : Int)) (kt : x < 0 → X Θ ce sl n Ty I L F tgt lv st) (kf : ¬ x < 0 → X Θ ce sl n Ty I L F (pc + 3) lv st) : X Θ ce sl n Ty I L F pc lv (.int x :: st) := by
  obtain ⟨⟨p, l9, e, R, s, m, args, below, meth, c, Qx⟩, G9, own9, nL9, mc9, ms9, post9⟩ := Θ
  obtain ⟨⟨rfl, rfl, rfl, rfl, rfl, rfl, rfl⟩, hx, hb, hml, hown, hts, hKK, hK, hr, hlk, rfl, hnm, hsz, hmq⟩ := h
  intro H locs ls hw hS hl
  exact lv_if_lt hx hb d ht (fun q => kt q H locs ls hw hS hl) (fun q => kf q H locs ls hw hS hl)
theorem x_icmp_lt (h : XOk Θ l cls cc nL k mc ms ret nm G own post) {x y : Int32} {off : Int} (tgt : Nat) (d : decode cc pc = .ok (.if_icmp .lt off, 3)) (ht : (pc : Int) + off = (tgt : Int)) (kt : x < y → X Θ ce sl n Ty I L F tgt lv st) (kf : ¬ x < y → X Θ ce sl n Ty I L F (pc + 3) lv st) : X Θ ce sl n Ty I L F pc lv (.int y :: .int x :: st) := by
  obtain ⟨⟨p, l9, e, R, s, m, args, below, meth, c, Qx⟩, G9, own9, nL9, mc9, ms9, post9⟩ := Θ
  obtain ⟨⟨rfl, rfl, rfl, rfl, rfl, rfl, rfl⟩, hx, hb, hml, hown, hts, hKK, hK, hr, hlk, rfl, hnm, hsz, hmq⟩ := h
  intro H locs ls hw hS hl
  exact lv_icmp_lt hx hb d ht (fun q => kt q H locs ls hw hS hl) (fun q => kf q H locs ls hw hS hl)
theorem x_if_ge (h : XOk Θ l cls cc nL k mc ms ret nm G own post) {x : Int32} {off : Int} (tgt : Nat) (d : decode cc pc = .ok (.ifCond .ge off, 3)) (ht : (pc : Int) + off = (tgt : Int)) (kt : 0 ≤ x → X Θ ce sl n Ty I L F tgt lv st) (kf : ¬ 0 ≤ x → X Θ ce sl n Ty I L F (pc + 3) lv st) : X Θ ce sl n Ty I L F pc lv (.int x :: st) := by
  obtain ⟨⟨p, l9, e, R, s, m, args, below, meth, c, Qx⟩, G9, own9, nL9, mc9, ms9, post9⟩ := Θ
  obtain ⟨⟨rfl, rfl, rfl, rfl, rfl, rfl, rfl⟩, hx, hb, hml, hown, hts, hKK, hK, hr, hlk, rfl, hnm, hsz, hmq⟩ := h
  intro H locs ls hw hS hl
  exact lv_if_ge hx hb d ht (fun q => kt q H locs ls hw hS hl) (fun q => kf q H locs ls hw hS hl)
theorem x_icmp_ge (h : XOk Θ l cls cc nL k mc ms ret nm G own post) {x y : Int32} {off : Int} (tgt : Nat) (d : decode cc pc = .ok (.if_icmp .ge off, 3)) (ht : (pc : Int) + off = (tgt : Int)) (kt : y ≤ x → X Θ ce sl n Ty I L F tgt lv st) (kf : ¬ y ≤ x → X Θ ce sl n Ty I L F (pc + 3) lv st) : X Θ ce sl n Ty I L F pc lv (.int y :: .int x :: st) := by
  obtain ⟨⟨p, l9, e, R, s, m, args, below, meth, c, Qx⟩, G9, own9, nL9, mc9, ms9, post9⟩ := Θ
  obtain ⟨⟨rfl, rfl, rfl, rfl, rfl, rfl, rfl⟩, hx, hb, hml, hown, hts, hKK, hK, hr, hlk, rfl, hnm, hsz, hmq⟩ := h
  intro H locs ls hw hS hl
  exact lv_icmp_ge hx hb d ht (fun q => kt q H locs ls hw hS hl) (fun q => kf q H locs ls hw hS hl)
theorem x_if_gt (h : XOk Θ l cls cc nL k mc ms ret nm G own post) {x : Int32} {off : Int} (tgt : Nat) (d : decode cc pc = .ok (.ifCond .gt off, 3)) (ht : (pc : Int) + off = (tgt : Int)) (kt : 0 < x → X Θ ce sl n Ty I L F tgt lv st) (kf : ¬ 0 < x → X Θ ce sl n Ty I L F (pc + 3) lv st) : X Θ ce sl n Ty I L F pc lv (.int x :: st) := by
  obtain ⟨⟨p, l9, e, R, s, m, args, below, meth, c, Qx⟩, G9, own9, nL9, mc9, ms9, post9⟩ := Θ
  obtain ⟨⟨rfl, rfl, rfl, rfl, rfl, rfl, rfl⟩, hx, hb, hml, hown, hts, hKK, hK, hr, hlk, rfl, hnm, hsz, hmq⟩ := h
  intro H locs ls hw hS hl
  exact lv_if_gt hx hb d ht (fun q => kt q H locs ls hw hS hl) (fun q => kf q H locs ls hw hS hl)
theorem x_icmp_gt (h : XOk Θ l cls cc nL k mc ms ret nm G own post) {x y : Int32} {off : Int} (tgt : Nat) (d : decode cc pc = .ok (.if_icmp .gt off, 3)) (ht : (pc : Int) + off = (tgt : Int)) (kt : y < x → X Θ ce sl n Ty I L F tgt lv st) (kf : ¬ y < x → X Θ ce sl n Ty I L F (pc + 3) lv st) : X Θ ce sl n Ty I L F pc lv (.int y :: .int x :: st) := by
  obtain ⟨⟨p, l9, e, R, s, m, args, below, meth, c, Qx⟩, G9, own9, nL9, mc9, ms9, post9⟩ := Θ
  obtain ⟨⟨rfl, rfl, rfl, rfl, rfl, rfl, rfl⟩, hx, hb, hml, hown, hts, hKK, hK, hr, hlk, rfl, hnm, hsz, hmq⟩ := h
  intro H locs ls hw hS hl
  exact lv_icmp_gt hx hb d ht (fun q => kt q H locs ls hw hS hl) (fun q => kf q H locs ls hw hS hl)
theorem x_if_le (h : XOk Θ l cls cc nL k mc ms ret nm G own post) {x : Int32} {off : Int} (tgt : Nat) (d : decode cc pc = .ok (.ifCond .le off, 3)) (ht : (pc : Int) + off = (tgt : Int)) (kt : x ≤ 0 → X Θ ce sl n Ty I L F tgt lv st) (kf : ¬ x ≤ 0 → X Θ ce sl n Ty I L F (pc + 3) lv st) : X Θ ce sl n Ty I L F pc lv (.int x :: st) := by
  obtain ⟨⟨p, l9, e, R, s, m, args, below, meth, c, Qx⟩, G9, own9, nL9, mc9, ms9, post9⟩ := Θ
  obtain ⟨⟨rfl, rfl, rfl, rfl, rfl, rfl, rfl⟩, hx, hb, hml, hown, hts, hKK, hK, hr, hlk, rfl, hnm, hsz, hmq⟩ := h
  intro H locs ls hw hS hl
  exact lv_if_le hx hb d ht (fun q => kt q H locs ls hw hS hl) (fun q => kf q H locs ls hw hS hl)
theorem x_icmp_le (h : XOk Θ l cls cc nL k mc ms ret nm G own post) {x y : Int32} {off : Int} (tgt : Nat) (d : decode cc pc = .ok (.if_icmp .le off, 3)) (ht : (pc : Int) + off = (tgt : Int)) (kt : x ≤ y → X Θ ce sl n Ty I L F tgt lv st) (kf : ¬ x ≤ y → X Θ ce sl n Ty I L F (pc + 3) lv st) : X Θ ce sl n Ty I L F pc lv (.int y :: .int x :: st) := by
  obtain ⟨⟨p, l9, e, R, s, m, args, below, meth, c, Qx⟩, G9, own9, nL9, mc9, ms9, post9⟩ := Θ
  obtain ⟨⟨rfl, rfl, rfl, rfl, rfl, rfl, rfl⟩, hx, hb, hml, hown, hts, hKK, hK, hr, hlk, rfl, hnm, hsz, hmq⟩ := h
  intro H locs ls hw hS hl
  exact lv_icmp_le hx hb d ht (fun q => kt q H locs ls hw hS hl) (fun q => kf q H locs ls hw hS hl)
theorem x_goto (h : XOk Θ l cls cc nL k mc ms ret nm G own post) {off : Int} (tgt : Nat) (d : decode cc pc = .ok (.goto off, 3)) (ht : (pc : Int) + off = (tgt : Int)) (kk : X Θ ce sl n Ty I L F tgt lv st) : X Θ ce sl n Ty I L F pc lv st := by
  obtain ⟨⟨p, l9, e, R, s, m, args, below, meth, c, Qx⟩, G9, own9, nL9, mc9, ms9, post9⟩ := Θ
  obtain ⟨⟨rfl, rfl, rfl, rfl, rfl, rfl, rfl⟩, hx, hb, hml, hown, hts, hKK, hK, hr, hlk, rfl, hnm, hsz, hmq⟩ := h
  intro H locs ls hw hS hl
  exact lv_goto hx hb d ht (kk H locs ls hw hS hl)
theorem x_ifnull (h : XOk Θ l cls cc nL k mc ms ret nm G own post) {a : Nat} {off : Int} (d : decode cc pc = .ok (.ifnull off, 3)) (kk : X Θ ce sl n Ty I L F (pc + 3) lv st) : X Θ ce sl n Ty I L F pc lv (.ref a :: st) := by
  obtain ⟨⟨p, l9, e, R, s, m, args, below, meth, c, Qx⟩, G9, own9, nL9, mc9, ms9, post9⟩ := Θ
  obtain ⟨⟨rfl, rfl, rfl, rfl, rfl, rfl, rfl⟩, hx, hb, hml, hown, hts, hKK, hK, hr, hlk, rfl, hnm, hsz, hmq⟩ := h
  intro H locs ls hw hS hl
  exact lv_ifnull hx hb d (kk H locs ls hw hS hl)
theorem x_ifnullN (h : XOk Θ l cls cc nL k mc ms ret nm G own post) {off : Int} (tgt : Nat) (d : decode cc pc = .ok (.ifnull off, 3)) (ht : (pc : Int) + off = (tgt : Int)) (kk : X Θ ce sl n Ty I L F tgt lv st) : X Θ ce sl n Ty I L F pc lv (.null :: st) := by
  obtain ⟨⟨p, l9, e, R, s, m, args, below, meth, c, Qx⟩, G9, own9, nL9, mc9, ms9, post9⟩ := Θ
  obtain ⟨⟨rfl, rfl, rfl, rfl, rfl, rfl, rfl⟩, hx, hb, hml, hown, hts, hKK, hK, hr, hlk, rfl, hnm, hsz, hmq⟩ := h
  intro H locs ls hw hS hl
  exact lv_ifnullN hx hb d ht (kk H locs ls hw hS hl)
theorem x_ifnonnull (h : XOk Θ l cls cc nL k mc ms ret nm G own post) {a : Nat} {off : Int} (tgt : Nat) (d : decode cc pc = .ok (.ifnonnull off, 3)) (ht : (pc : Int) + off = (tgt : Int)) (kk : X Θ ce sl n Ty I L F tgt lv st) : X Θ ce sl n Ty I L F pc lv (.ref a :: st) := by
  obtain ⟨⟨p, l9, e, R, s, m, args, below, meth, c, Qx⟩, G9, own9, nL9, mc9, ms9, post9⟩ := Θ
  obtain ⟨⟨rfl, rfl, rfl, rfl, rfl, rfl, rfl⟩, hx, hb, hml, hown, hts, hKK, hK, hr, hlk, rfl, hnm, hsz, hmq⟩ := h
  intro H locs ls hw hS hl
  exact lv_ifnonnull hx hb d ht (kk H locs ls hw hS hl)
theorem x_ifnonnullN (h : XOk Θ l cls cc nL k mc ms ret nm G own post) {off : Int} (d : decode cc pc = .ok (.ifnonnull off, 3)) (kk : X Θ ce sl n Ty I L F (pc + 3) lv st) : X Θ ce sl n Ty I L F pc lv (.null :: st) := by
  obtain ⟨⟨p, l9, e, R, s, m, args, below, meth, c, Qx⟩, G9, own9, nL9, mc9, ms9, post9⟩ := Θ
  obtain ⟨⟨rfl, rfl, rfl, rfl, rfl, rfl, rfl⟩, hx, hb, hml, hown, hts, hKK, hK, hr, hlk, rfl, hnm, hsz, hmq⟩ := h
  intro H locs ls hw hS hl
  exact lv_ifnonnullN hx hb d (kk H locs ls hw hS hl)
theorem x_tabIn (h : XOk Θ l cls cc nL k mc ms ret nm G own post) {dflt lo hi : Int} {offs : Array Int} {len : Nat} {x : Int32} {off : Int} (tgt : Nat) (d : decode cc pc = .ok (.tableswitch dflt lo hi offs, len)) (h1 : ¬ x.toInt < lo) (h2 : ¬ hi < x.toInt) (ho : offs[(x.toInt - lo).toNat]? = some off) (ht : (pc : Int) + off = (tgt : Int)) (kk : X Θ ce sl n Ty I L F tgt lv st) : X Θ ce sl n Ty I L F pc lv (.int x :: st) := by
  obtain ⟨⟨p, l9, e, R, s, m, args, below, meth, c, Qx⟩, G9, own9, nL9, mc9, ms9, post9⟩ := Θ
  obtain ⟨⟨rfl, rfl, rfl, rfl, rfl, rfl, rfl⟩, hx, hb, hml, hown, hts, hKK, hK, hr, hlk, rfl, hnm, hsz, hmq⟩ := h
  intro H locs ls hw hS hl
  exact lv_tableIn hx hb d h1 h2 ho ht (kk H locs ls hw hS hl)
theorem x_tabOut (h : XOk Θ l cls cc nL k mc ms ret nm G own post) {dflt lo hi : Int} {offs : Array Int} {len : Nat} {x : Int32} (tgt : Nat) (d : decode cc pc = .ok (.tableswitch dflt lo hi offs, len)) (h1 : x.toInt < lo ∨ hi < x.toInt) (ht : (pc : Int) + dflt = (tgt : Int)) (kk : X Θ ce sl n Ty I L F tgt lv st) : X Θ ce sl n Ty I L F pc lv (.int x :: st) := by
  obtain ⟨⟨p, l9, e, R, s, m, args, below, meth, c, Qx⟩, G9, own9, nL9, mc9, ms9, post9⟩ := Θ
  obtain ⟨⟨rfl, rfl, rfl, rfl, rfl, rfl, rfl⟩, hx, hb, hml, hown, hts, hKK, hK, hr, hlk, rfl, hnm, hsz, hmq⟩ := h
  intro H locs ls hw hS hl
  exact lv_tableOut hx hb d h1 ht (kk H locs ls hw hS hl)
theorem x_look (h : XOk Θ l cls cc nL k mc ms ret nm G own post) {dflt : Int} {ps : Array (Int × Int)} {len : Nat} {x : Int32} {off : Int} (tgt : Nat) (d : decode cc pc = .ok (.lookupswitch dflt ps, len)) (hp : (ps.toList.zip (ps.toList.drop 1)).all (fun (a, next) => a.1 < next.1) = true) (ho : Op.lookupswitch.offset ps.toList dflt x.toInt = off) (ht : (pc : Int) + off = (tgt : Int)) (kk : X Θ ce sl n Ty I L F tgt lv st) : X Θ ce sl n Ty I L F pc lv (.int x :: st) := by
  obtain ⟨⟨p, l9, e, R, s, m, args, below, meth, c, Qx⟩, G9, own9, nL9, mc9, ms9, post9⟩ := Θ
  obtain ⟨⟨rfl, rfl, rfl, rfl, rfl, rfl, rfl⟩, hx, hb, hml, hown, hts, hKK, hK, hr, hlk, rfl, hnm, hsz, hmq⟩ := h
  intro H locs ls hw hS hl
  exact lv_lookup hx hb d hp ho ht (kk H locs ls hw hS hl)
theorem x_tabD (h : XOk Θ l cls cc nL k mc ms ret nm G own post) {dflt lo hi : Int} {offs : Array Int} {len : Nat} {x : Int32} (tgt : Nat) (d : decode cc pc = .ok (.tableswitch dflt lo hi offs, len)) (hz : hi - lo + 1 = (offs.size : Int)) (hh : ∀ j : Nat, j < offs.size → offs[j]? = some dflt ∨ ¬ x.toInt = lo + j) (ht : (pc : Int) + dflt = (tgt : Int)) (kk : X Θ ce sl n Ty I L F tgt lv st) : X Θ ce sl n Ty I L F pc lv (.int x :: st) := by
  by_cases h1 : x.toInt < lo
  · exact x_tabOut h tgt d (Or.inl h1) ht kk
  · by_cases h2 : hi < x.toInt
    · exact x_tabOut h tgt d (Or.inr h2) ht kk
    · have hj : (x.toInt - lo).toNat < offs.size := by omega
      rcases hh _ hj with q | q
      · exact x_tabIn h tgt d h1 h2 q ht kk
      · exact absurd (by omega) q
theorem xsw_ne {x k : Int32} {a : Int} (h : ¬ x = k) (hk : k.toInt = a) : ¬ x.toInt = a := fun e => h (Int32.toInt_inj.mp (by rw [hk]; exact e))
theorem x_nmi {x : Int32} (kk : ∀ y : Int32, y = x → X Θ ce sl n Ty I L F pc lv (.int y :: st)) : X Θ ce sl n Ty I L F pc lv (.int x :: st) := kk x rfl
theorem x_nml {x : Int64} (kk : ∀ y : Int64, y = x → X Θ ce sl n Ty I L F pc lv (.long y :: st)) : X Θ ce sl n Ty I L F pc lv (.long x :: st) := kk x rfl
theorem x_nmL (kk : ∀ M : xL_T, M = L → X Θ ce sl n Ty I M F pc lv st) : X Θ ce sl n Ty I L F pc lv st := kk L rfl
theorem x_nmI (kk : ∀ J : xI_T, J = I → X Θ ce sl n Ty J L F pc lv st) : X Θ ce sl n Ty I L F pc lv st := kk I rfl
theorem x_wid (h : XOk Θ l cls cc nL k mc ms ret nm G own post) (h1 : ce ≤ mc) (h2 : sl ≤ ms) (kk : X Θ mc ms n Ty I L F pc lv st) : X Θ ce sl n Ty I L F pc lv st := by
  obtain ⟨⟨p, l9, e, R, s, m, args, below, meth, c, Qx⟩, G9, own9, nL9, mc9, ms9, post9⟩ := Θ
  obtain ⟨⟨rfl, rfl, rfl, rfl, rfl, rfl, rfl⟩, hx, hb, hml, hown, hts, hKK, hK, hr, hlk, rfl, hnm, hsz, hmq⟩ := h
  intro H locs ls hw hS hl
  exact W.widen h1 h2 (kk H locs ls hw hS hl)
theorem xW_mono {p : Program} {l : Launch} {e : Env} {R : Room} {s : State} {m : MethodId} {args : Array Value} {below : List Frame} {meth : Method} {c : Code} {H : Heap} {locs : List Loc} {cells slots : Nat} {Q Q' : State → Prop} {g : JFrame} (h : ∀ t : State, Q t → Q' t) (k : W p l e R s m args below meth c H locs cells slots Q g) : W p l e R s m args below meth c H locs cells slots Q' g := fun T hT X => by
  obtain ⟨t, a, b⟩ := k T hT X
  exact ⟨t, a, h t b⟩
theorem xQ_of {G : xG_T} {own : Nat → Prop} {post : xP_T} {n : Nat} {Ty : Nat → xs_T} {I : xI_T} {L : xL_T} {F : xF_T} {s t : State} {H : Heap} {locs : List Loc} {v : Option Value} {a : Array Value} (hp : post v n Ty I L F) (hw : Wd G own n Ty I L F H) (hS : va_S (xA G own) s.heap H locs) (ht : t.heap = H) : xQ G own post a s (.returned v) t :=
  ⟨⟨v, n, Ty, I, L, F, rfl, hp, by rw [ht]; exact hw⟩, hS.F ht⟩
theorem x_iret (h : XOk Θ l cls cc nL k mc ms ret nm G own post) {v : Int32} (d : decode cc pc = .ok (.ireturn, 1))  (hrt : ret = some .int) (hp : post (some (.int v)) n Ty I L F) : X Θ mc ms n Ty I L F pc lv ([.int v]) := by
  obtain ⟨⟨p, l9, e, R, s, m, args, below, meth, c, Qx⟩, G9, own9, nL9, mc9, ms9, post9⟩ := Θ
  obtain ⟨⟨rfl, rfl, rfl, rfl, rfl, rfl, rfl⟩, hx, hb, hml, hown, hts, hKK, hK, hr, hlk, rfl, hnm, hsz, hmq⟩ := h
  intro H locs ls hw hS hl
  exact xW_mono hmq (W.iret hx hb (hr.trans hrt) (fun t ht _ => xQ_of hp hw hS ht) hS.2.2 d hlk)
theorem x_zret (h : XOk Θ l cls cc nL k mc ms ret nm G own post) {v : Int32} {ty : FieldType} (d : decode cc pc = .ok (.ireturn, 1)) (hn : narrow ty (.int v) = .int v) (hrt : ret = some ty) (hp : post (some (.int v)) n Ty I L F) : X Θ mc ms n Ty I L F pc lv ([.int v]) := by
  obtain ⟨⟨p, l9, e, R, s, m, args, below, meth, c, Qx⟩, G9, own9, nL9, mc9, ms9, post9⟩ := Θ
  obtain ⟨⟨rfl, rfl, rfl, rfl, rfl, rfl, rfl⟩, hx, hb, hml, hown, hts, hKK, hK, hr, hlk, rfl, hnm, hsz, hmq⟩ := h
  intro H locs ls hw hS hl
  exact xW_mono hmq (W.zret hx hb (hr.trans hrt) hn (fun t ht _ => xQ_of hp hw hS ht) hS.2.2 d hlk)
theorem x_lret (h : XOk Θ l cls cc nL k mc ms ret nm G own post) {v : Int64} (d : decode cc pc = .ok (.lreturn, 1))  (hrt : ret = some .long) (hp : post (some (.long v)) n Ty I L F) : X Θ mc ms n Ty I L F pc lv ([.long v]) := by
  obtain ⟨⟨p, l9, e, R, s, m, args, below, meth, c, Qx⟩, G9, own9, nL9, mc9, ms9, post9⟩ := Θ
  obtain ⟨⟨rfl, rfl, rfl, rfl, rfl, rfl, rfl⟩, hx, hb, hml, hown, hts, hKK, hK, hr, hlk, rfl, hnm, hsz, hmq⟩ := h
  intro H locs ls hw hS hl
  exact xW_mono hmq (W.lret hx hb (hr.trans hrt) (fun t ht _ => xQ_of hp hw hS ht) hS.2.2 d hlk)
theorem x_vret (h : XOk Θ l cls cc nL k mc ms ret nm G own post)  (d : decode cc pc = .ok (.return_, 1))  (hrt : ret = none) (hp : post none n Ty I L F) : X Θ mc ms n Ty I L F pc lv ([]) := by
  obtain ⟨⟨p, l9, e, R, s, m, args, below, meth, c, Qx⟩, G9, own9, nL9, mc9, ms9, post9⟩ := Θ
  obtain ⟨⟨rfl, rfl, rfl, rfl, rfl, rfl, rfl⟩, hx, hb, hml, hown, hts, hKK, hK, hr, hlk, rfl, hnm, hsz, hmq⟩ := h
  intro H locs ls hw hS hl
  exact xW_mono hmq (W.vret hx hb (hr.trans hrt) (fun t ht _ => xQ_of hp hw hS ht) hS.2.2 d hlk)
theorem x_aret (h : XOk Θ l cls cc nL k mc ms ret nm G own post) {v : Nat} {ty : FieldType} (d : decode cc pc = .ok (.areturn, 1)) (hn : (∃ x, ty = .object x) ∨ ∃ t, ty = .array t) (hrt : ret = some ty) (hp : post (some (.ref v)) n Ty I L F) : X Θ mc ms n Ty I L F pc lv ([.ref v]) := by
  obtain ⟨⟨p, l9, e, R, s, m, args, below, meth, c, Qx⟩, G9, own9, nL9, mc9, ms9, post9⟩ := Θ
  obtain ⟨⟨rfl, rfl, rfl, rfl, rfl, rfl, rfl⟩, hx, hb, hml, hown, hts, hKK, hK, hr, hlk, rfl, hnm, hsz, hmq⟩ := h
  intro H locs ls hw hS hl
  exact xW_mono hmq (W.aret (v := .ref v) hx hb (hr.trans hrt) hn (Or.inr ⟨v, rfl⟩) (fun t ht _ => xQ_of hp hw hS ht) hS.2.2 d hlk)
theorem x_aretN (h : XOk Θ l cls cc nL k mc ms ret nm G own post) {ty : FieldType} (d : decode cc pc = .ok (.areturn, 1)) (hn : (∃ x, ty = .object x) ∨ ∃ t, ty = .array t) (hrt : ret = some ty) (hp : post (some (.null)) n Ty I L F) : X Θ mc ms n Ty I L F pc lv ([.null]) := by
  obtain ⟨⟨p, l9, e, R, s, m, args, below, meth, c, Qx⟩, G9, own9, nL9, mc9, ms9, post9⟩ := Θ
  obtain ⟨⟨rfl, rfl, rfl, rfl, rfl, rfl, rfl⟩, hx, hb, hml, hown, hts, hKK, hK, hr, hlk, rfl, hnm, hsz, hmq⟩ := h
  intro H locs ls hw hS hl
  exact xW_mono hmq (W.aret (v := .null) hx hb (hr.trans hrt) hn (Or.inl rfl) (fun t ht _ => xQ_of hp hw hS ht) hS.2.2 d hlk)
theorem Wd.at {G : xG_T} {own : Nat → Prop} {n : Nat} {Ty : Nat → xs_T} {I : xI_T} {L : xL_T} {F : xF_T} {H : Heap} (hw : Wd G own n Ty I L F H) {i : Nat} {e : va_E} (hi : i < n) (he : xcell G Ty I L F i = some e) : va_P G.1 xcl [(xb G + i, e)] H := by
  intro k q hk
  match k, hk with
  | 0, hk =>
    cases hk
    exact hw.2.2.2 i e hi he
  | k + 1, hk => simp at hk
theorem Wd.lt {G : xG_T} {own : Nat → Prop} {n : Nat} {Ty : Nat → xs_T} {I : xI_T} {L : xL_T} {F : xF_T} {H : Heap} (hw : Wd G own n Ty I L F H) {i : Nat} (hi : i < n) : xb G + i < H.size := by rw [hw.1]; omega
/-- a cell is written: all else stands -/
theorem Wd.put {G : xG_T} {own : Nat → Prop} {n : Nat} {Ty : Nat → xs_T} {I I' : xI_T} {L L' : xL_T} {F F' : xF_T} {H H1 : Heap} (hw : Wd G own n Ty I L F H) {i : Nat} (z : H1.size = H.size) (oq : ∀ q : Nat, q ≠ xb G + i → H1[q]? = H[q]?) (hsame : ∀ j, j ≠ i → xcell G Ty I' L' F' j = xcell G Ty I L F j) (hnew : ∀ e, xcell G Ty I' L' F' i = some e → va_at G.1 xcl (xb G + i, e) H1) : Wd G own n Ty I' L' F' H1 := by
  refine ⟨z.trans hw.1, fun q hq => (oq q (by omega)).trans (hw.2.1 q hq), hw.2.2.1, fun j e hj he => ?_⟩
  by_cases hji : j = i
  · subst hji
    exact hnew e he
  · rw [hsame j hji] at he
    exact (hw.2.2.2 j e hj he).kept (oq (xb G + j) (by omega))
theorem xcell_I {G : xG_T} {Ty : Nat → xs_T} {I I' : xI_T} {L L' : xL_T} {F F' : xF_T} {j : Nat} (h1 : I' j = I j) (h2 : L' j = L j) (h3 : F' j = F j) : xcell G Ty I' L' F' j = xcell G Ty I L F j := by
  unfold xcell
  rw [h1, h2, h3]
theorem xA.in {G : xG_T} {own : Nat → Prop} {i : Nat} (h : own i) : xA G own (xb G + i) := ⟨i, rfl, h⟩
theorem xcell_o {G : xG_T} {Ty : Nat → xs_T} {I : xI_T} {L : xL_T} {F : xF_T} {i ci : Nat} (ht : Ty i = some (.inl ci)) : xcell G Ty I L F i = some (.inr (ci, xobj (xb G) (xfk ci) (I i) (F i))) := by
  unfold xcell
  rw [ht]
theorem xcell_a {G : xG_T} {Ty : Nat → xs_T} {I : xI_T} {L : xL_T} {F : xF_T} {i t N : Nat} (ht : Ty i = some (.inr (t, N))) : xcell G Ty I L F i = some (.inl (G.2.1 t, xarr (xb G) t N (I i) (L i) (F i))) := by
  unfold xcell
  rw [ht]
theorem xobj_len (b : Nat) (ks : List Nat) (I : Nat → Int32) (F : Nat → Option Nat) : (xobj b ks I F).length = ks.length := by simp [xobj]
theorem xobj_get {b : Nat} {ks : List Nat} {I : Nat → Int32} {F : Nat → Option Nat} {k : Nat} (hk : k < ks.length) : (xobj b ks I F)[k]? = some (if ks.getD k 0 = 0 then .int (I k) else xval b (F k)) := by
  unfold xobj
  rw [List.getElem?_map, List.getElem?_range hk]
  rfl
theorem xobj_setI {b : Nat} {ks : List Nat} {I : Nat → Int32} {F : Nat → Option Nat} {k : Nat} {v : Int32} (h0 : ks.getD k 0 = 0) : (xobj b ks I F).set k (.int v) = xobj b ks (fun j => if j = k then v else I j) F := by
  apply List.ext_getElem?
  intro j
  by_cases hj : j = k
  · subst hj
    by_cases hl : j < ks.length
    · rw [List.getElem?_set_self (by rw [xobj_len]; exact hl), xobj_get hl, if_pos h0, if_pos rfl]
    · rw [List.getElem?_eq_none (by simp [xobj_len]; omega), List.getElem?_eq_none (by simp [xobj_len]; omega)]
  · rw [List.getElem?_set_ne (Ne.symm hj)]
    by_cases hl : j < ks.length
    · rw [xobj_get hl, xobj_get hl, if_neg hj]
    · rw [List.getElem?_eq_none (by simp [xobj_len]; omega), List.getElem?_eq_none (by simp [xobj_len]; omega)]
theorem xobj_setF {b : Nat} {ks : List Nat} {I : Nat → Int32} {F : Nat → Option Nat} {k : Nat} {v : Option Nat} (h0 : ¬ ks.getD k 0 = 0) : (xobj b ks I F).set k (xval b v) = xobj b ks I (fun j => if j = k then v else F j) := by
  apply List.ext_getElem?
  intro j
  by_cases hj : j = k
  · subst hj
    by_cases hl : j < ks.length
    · rw [List.getElem?_set_self (by rw [xobj_len]; exact hl), xobj_get hl, if_neg h0, if_pos rfl]
    · rw [List.getElem?_eq_none (by simp [xobj_len]; omega), List.getElem?_eq_none (by simp [xobj_len]; omega)]
  · rw [List.getElem?_set_ne (Ne.symm hj)]
    by_cases hl : j < ks.length
    · rw [xobj_get hl, xobj_get hl, if_neg hj]
    · rw [List.getElem?_eq_none (by simp [xobj_len]; omega), List.getElem?_eq_none (by simp [xobj_len]; omega)]
theorem up2_self {α : Type} (f : Nat → Nat → α) (i k : Nat) (v : α) : up2 f i k v i = fun j => if j = k then v else f i j := by
  funext j
  simp [up2]
/-- what a field's own words say: by cls, entry idx: field k of the kind ci -/
def xfg (cls : String) (idx ci k : Nat) : Prop := ∃ (C : String) (T : u_T) (N : Nat), xcl[ci]? = some (C, T, N) ∧ k < N ∧ (∀ w ∈ u_ws C T N, w ∈ lw_all) ∧ Cond.fieldLink cls idx (T k).1 (T k).2.1 (T k).2.2.1 ∈ lw_all ∧ (xfk ci).length = N
def xfp (cls : String) (idx ci k : Nat) (ty : FieldType) (fin : Bool) : Prop := ∃ (C : String) (T : u_T) (N : Nat) (ty0 : Nat → FieldType), xcl[ci]? = some (C, T, N) ∧ k < N ∧ (∀ w ∈ u_ws C T N, w ∈ lw_all) ∧ Cond.fieldLink cls idx (T k).1 (T k).2.1 (T k).2.2.1 ∈ lw_all ∧ (xfk ci).length = N ∧ (∀ k, k < N → parseFieldDescriptor (T k).2.2.1 = some (ty0 k)) ∧ (∀ a, a < N → ∀ b, b < N → a ≠ b → (T a).2.1 ≠ (T b).2.1) ∧ parseFieldDescriptor (T k).2.2.1 = some ty ∧ (T k).2.2.2 = fin
theorem x_geti (h : XOk Θ l cls cc nL k mc ms ret nm G own post) {idx ci k0 i : Nat} (g : xfg cls idx ci k0) (hi : i < n) (ht : Ty i = some (.inl ci)) (h0 : (xfk ci).getD k0 0 = 0) (d : decode cc pc = .ok (.getfield idx, 3)) (kk : X Θ ce sl n Ty I L F (pc + 3) lv (.int (I i k0) :: st)) : X Θ ce sl n Ty I L F pc lv (.ref (xb G + i) :: st) := by
  obtain ⟨⟨p, l9, e, R, s, m, args, below, meth, c, Qx⟩, G9, own9, nL9, mc9, ms9, post9⟩ := Θ
  obtain ⟨⟨rfl, rfl, rfl, rfl, rfl, rfl, rfl⟩, hx, hb, hml, hown, hts, hKK, hK, hr, hlk, rfl, hnm, hsz, hmq⟩ := h
  intro H locs ls hw hS hl
  obtain ⟨C, T, N, hc, hk, hin, hln, hlen⟩ := g
  exact va_get hx hb hts hin hown hK (hw.at hi (xcell_o ht)) 0 rfl hc k0 hk (hts _ hln) (fun _ q => q) (v := .int (I i k0)) (by rw [xobj_get (by omega), if_pos h0]) d (kk H locs ls hw hS hl)
theorem x_geta (h : XOk Θ l cls cc nL k mc ms ret nm G own post) {idx ci k0 i : Nat} (g : xfg cls idx ci k0) (hi : i < n) (ht : Ty i = some (.inl ci)) (h0 : ¬ (xfk ci).getD k0 0 = 0) (d : decode cc pc = .ok (.getfield idx, 3)) (kk : X Θ ce sl n Ty I L F (pc + 3) lv (xval (xb G) (F i k0) :: st)) : X Θ ce sl n Ty I L F pc lv (.ref (xb G + i) :: st) := by
  obtain ⟨⟨p, l9, e, R, s, m, args, below, meth, c, Qx⟩, G9, own9, nL9, mc9, ms9, post9⟩ := Θ
  obtain ⟨⟨rfl, rfl, rfl, rfl, rfl, rfl, rfl⟩, hx, hb, hml, hown, hts, hKK, hK, hr, hlk, rfl, hnm, hsz, hmq⟩ := h
  intro H locs ls hw hS hl
  obtain ⟨C, T, N, hc, hk, hin, hln, hlen⟩ := g
  exact va_get hx hb hts hin hown hK (hw.at hi (xcell_o ht)) 0 rfl hc k0 hk (hts _ hln) (fun _ q => q) (v := xval (xb G) (F i k0)) (by rw [xobj_get (by omega), if_neg h0]) d (kk H locs ls hw hS hl)
theorem x_getr (h : XOk Θ l cls cc nL k mc ms ret nm G own post) {idx ci k0 i j : Nat} (g : xfg cls idx ci k0) (hi : i < n) (ht : Ty i = some (.inl ci)) (h0 : ¬ (xfk ci).getD k0 0 = 0) (hj : F i k0 = some j) (d : decode cc pc = .ok (.getfield idx, 3)) (kk : X Θ ce sl n Ty I L F (pc + 3) lv (.ref (xb G + j) :: st)) : X Θ ce sl n Ty I L F pc lv (.ref (xb G + i) :: st) := by
  refine x_geta h g hi ht h0 d ?_
  rw [hj]
  exact kk
theorem x_puti (h : XOk Θ l cls cc nL k mc ms ret nm G own post) {idx ci k0 i : Nat} {ty : FieldType} {v : Int32} (g : xfp cls idx ci k0 ty false) (hi : i < n) (ht : Ty i = some (.inl ci)) (h0 : (xfk ci).getD k0 0 = 0) (hn : narrow ty (.int v) = .int v) (hfit : fits ty (.int v) = true) (d : decode cc pc = .ok (.putfield idx, 3)) (kk : ∀ I' : xI_T, I' = up2 I i k0 v → X Θ ce sl n Ty I' L F (pc + 3) lv st) : X Θ ce sl n Ty I L F pc lv (.int v :: .ref (xb G + i) :: st) := by
  obtain ⟨⟨p, l9, e, R, s, m, args, below, meth, c, Qx⟩, G9, own9, nL9, mc9, ms9, post9⟩ := Θ
  obtain ⟨⟨rfl, rfl, rfl, rfl, rfl, rfl, rfl⟩, hx, hb, hml, hown, hts, hKK, hK, hr, hlk, rfl, hnm, hsz, hmq⟩ := h
  intro H locs ls hw hS hl
  obtain ⟨C, T, N, ty0, hc, hk, hin, hln, hlen, hty, hnmx, hpt, hfin⟩ := g
  have hap := va_apart (own := cls) hts hin ty0 hty hnmx hK hc
  obtain ⟨r, h1, cell, q1, q2, q3, q4⟩ := hw.2.2.2 i _ hi (xcell_o ht)
  have hrr : r = (C, T, N) := Option.some.inj (h1.symm.trans hc)
  subst hrr
  obtain ⟨hSl, hfc, kC, hkC, hkind⟩ := hK.1 ci _ hc
  obtain ⟨cf, kf, fi, f, hif, hsl⟩ := hSl k0 hk
  have hlay := hts _ (hin _ (u_in_lay hk))
  unfold u_lay at hlay
  rw [if_neg (by rw [hfin]; decide)] at hlay
  have hst := (u_facts hfc hkC (u_lays hts hin hk) hif).1
  have h6 := u_store hfc hkC hkind hlay hif hpt hn hfit
  refine W.putK hx hb (f := f) ⟨hown, hts _ hln, ⟨_, _, _, hif⟩, hst⟩ (by rw [q2]; exact h6) q1 q3 (by rw [hsl]; exact k2_hasslot (q4 k0 hk)) rfl rfl d fun H' e1 e2 e3 => ?_
  rw [hsl] at e1
  refine kk  _ rfl H' _ ls (hw.put e2 e3 (fun z hz => xcell_I (up2_r I v hz) rfl rfl) (fun e he => ?_)) (by rw [hsl]; exact hS.put e2 e3 (xA.in (hw.2.2.1 i hi (by rw [ht]; exact fun q => by cases q)))) hl
  rw [xcell_o ht] at he
  cases he
  refine ⟨_, hc, t_OB.to (V := updV (vp_V (xobj (xb G) (xfk ci) (I i) (F i))) k0 (.int v)) ⟨_, e1, q2, q3, t_set q4 hap hk _⟩ (fun z0 _ => ?_)⟩
  rw [vp_updV_set (by rw [xobj_len]; omega), xobj_setI h0, up2_self]
theorem x_putr (h : XOk Θ l cls cc nL k mc ms ret nm G own post) {idx ci k0 i : Nat} {ty : FieldType} {j : Nat} (g : xfp cls idx ci k0 ty false) (hi : i < n) (ht : Ty i = some (.inl ci)) (h0 : ¬ (xfk ci).getD k0 0 = 0) (hn : narrow ty (.ref (xb G + j)) = .ref (xb G + j)) (hfit : fits ty (.ref (xb G + j)) = true) (d : decode cc pc = .ok (.putfield idx, 3)) (kk : ∀ F' : xF_T, F' = up2 F i k0 (some j) → X Θ ce sl n Ty I L F' (pc + 3) lv st) : X Θ ce sl n Ty I L F pc lv (.ref (xb G + j) :: .ref (xb G + i) :: st) := by
  obtain ⟨⟨p, l9, e, R, s, m, args, below, meth, c, Qx⟩, G9, own9, nL9, mc9, ms9, post9⟩ := Θ
  obtain ⟨⟨rfl, rfl, rfl, rfl, rfl, rfl, rfl⟩, hx, hb, hml, hown, hts, hKK, hK, hr, hlk, rfl, hnm, hsz, hmq⟩ := h
  intro H locs ls hw hS hl
  obtain ⟨C, T, N, ty0, hc, hk, hin, hln, hlen, hty, hnmx, hpt, hfin⟩ := g
  have hap := va_apart (own := cls) hts hin ty0 hty hnmx hK hc
  obtain ⟨r, h1, cell, q1, q2, q3, q4⟩ := hw.2.2.2 i _ hi (xcell_o ht)
  have hrr : r = (C, T, N) := Option.some.inj (h1.symm.trans hc)
  subst hrr
  obtain ⟨hSl, hfc, kC, hkC, hkind⟩ := hK.1 ci _ hc
  obtain ⟨cf, kf, fi, f, hif, hsl⟩ := hSl k0 hk
  have hlay := hts _ (hin _ (u_in_lay hk))
  unfold u_lay at hlay
  rw [if_neg (by rw [hfin]; decide)] at hlay
  have hst := (u_facts hfc hkC (u_lays hts hin hk) hif).1
  have h6 := u_store hfc hkC hkind hlay hif hpt hn hfit
  refine W.putK hx hb (f := f) ⟨hown, hts _ hln, ⟨_, _, _, hif⟩, hst⟩ (by rw [q2]; exact h6) q1 q3 (by rw [hsl]; exact k2_hasslot (q4 k0 hk)) rfl rfl d fun H' e1 e2 e3 => ?_
  rw [hsl] at e1
  refine kk  _ rfl H' _ ls (hw.put e2 e3 (fun z hz => xcell_I rfl rfl (up2_r F (some j) hz)) (fun e he => ?_)) (by rw [hsl]; exact hS.put e2 e3 (xA.in (hw.2.2.1 i hi (by rw [ht]; exact fun q => by cases q)))) hl
  rw [xcell_o ht] at he
  cases he
  refine ⟨_, hc, t_OB.to (V := updV (vp_V (xobj (xb G) (xfk ci) (I i) (F i))) k0 (.ref (xb G + j))) ⟨_, e1, q2, q3, t_set q4 hap hk _⟩ (fun z0 _ => ?_)⟩
  rw [vp_updV_set (by rw [xobj_len]; omega), show Value.ref (xb G + j) = xval (xb G) (some j) from rfl, xobj_setF h0, up2_self]
theorem x_putN (h : XOk Θ l cls cc nL k mc ms ret nm G own post) {idx ci k0 i : Nat} {ty : FieldType}  (g : xfp cls idx ci k0 ty false) (hi : i < n) (ht : Ty i = some (.inl ci)) (h0 : ¬ (xfk ci).getD k0 0 = 0) (hn : narrow ty (.null) = .null) (hfit : fits ty (.null) = true) (d : decode cc pc = .ok (.putfield idx, 3)) (kk : ∀ F' : xF_T, F' = up2 F i k0 none → X Θ ce sl n Ty I L F' (pc + 3) lv st) : X Θ ce sl n Ty I L F pc lv (.null :: .ref (xb G + i) :: st) := by
  obtain ⟨⟨p, l9, e, R, s, m, args, below, meth, c, Qx⟩, G9, own9, nL9, mc9, ms9, post9⟩ := Θ
  obtain ⟨⟨rfl, rfl, rfl, rfl, rfl, rfl, rfl⟩, hx, hb, hml, hown, hts, hKK, hK, hr, hlk, rfl, hnm, hsz, hmq⟩ := h
  intro H locs ls hw hS hl
  obtain ⟨C, T, N, ty0, hc, hk, hin, hln, hlen, hty, hnmx, hpt, hfin⟩ := g
  have hap := va_apart (own := cls) hts hin ty0 hty hnmx hK hc
  obtain ⟨r, h1, cell, q1, q2, q3, q4⟩ := hw.2.2.2 i _ hi (xcell_o ht)
  have hrr : r = (C, T, N) := Option.some.inj (h1.symm.trans hc)
  subst hrr
  obtain ⟨hSl, hfc, kC, hkC, hkind⟩ := hK.1 ci _ hc
  obtain ⟨cf, kf, fi, f, hif, hsl⟩ := hSl k0 hk
  have hlay := hts _ (hin _ (u_in_lay hk))
  unfold u_lay at hlay
  rw [if_neg (by rw [hfin]; decide)] at hlay
  have hst := (u_facts hfc hkC (u_lays hts hin hk) hif).1
  have h6 := u_store hfc hkC hkind hlay hif hpt hn hfit
  refine W.putK hx hb (f := f) ⟨hown, hts _ hln, ⟨_, _, _, hif⟩, hst⟩ (by rw [q2]; exact h6) q1 q3 (by rw [hsl]; exact k2_hasslot (q4 k0 hk)) rfl rfl d fun H' e1 e2 e3 => ?_
  rw [hsl] at e1
  refine kk  _ rfl H' _ ls (hw.put e2 e3 (fun z hz => xcell_I rfl rfl (up2_r F none hz)) (fun e he => ?_)) (by rw [hsl]; exact hS.put e2 e3 (xA.in (hw.2.2.1 i hi (by rw [ht]; exact fun q => by cases q)))) hl
  rw [xcell_o ht] at he
  cases he
  refine ⟨_, hc, t_OB.to (V := updV (vp_V (xobj (xb G) (xfk ci) (I i) (F i))) k0 (.null)) ⟨_, e1, q2, q3, t_set q4 hap hk _⟩ (fun z0 _ => ?_)⟩
  rw [vp_updV_set (by rw [xobj_len]; omega), show Value.null = xval (xb G) none from rfl, xobj_setF h0, up2_self]
theorem x_putiF (h : XOk Θ l cls cc nL k mc ms ret nm G own post) {idx ci k0 i : Nat} {ty : FieldType} {v : Int32} (g : xfp cls idx ci k0 ty true) (hi : i < n) (ht : Ty i = some (.inl ci)) (h0 : (xfk ci).getD k0 0 = 0) (hin2 : nm = "<init>") (hdecl : ∀ C T N, xcl[ci]? = some (C, T, N) → (T k0).1 = cls) (hn : narrow ty (.int v) = .int v) (hfit : fits ty (.int v) = true) (d : decode cc pc = .ok (.putfield idx, 3)) (kk : ∀ I' : xI_T, I' = up2 I i k0 v → X Θ ce sl n Ty I' L F (pc + 3) lv st) : X Θ ce sl n Ty I L F pc lv (.int v :: .ref (xb G + i) :: st) := by
  obtain ⟨⟨p, l9, e, R, s, m, args, below, meth, c, Qx⟩, G9, own9, nL9, mc9, ms9, post9⟩ := Θ
  obtain ⟨⟨rfl, rfl, rfl, rfl, rfl, rfl, rfl⟩, hx, hb, hml, hown, hts, hKK, hK, hr, hlk, rfl, hnm, hsz, hmq⟩ := h
  intro H locs ls hw hS hl
  obtain ⟨C, T, N, ty0, hc, hk, hin, hln, hlen, hty, hnmx, hpt, hfin⟩ := g
  have hap := va_apart (own := cls) hts hin ty0 hty hnmx hK hc
  obtain ⟨r, h1, cell, q1, q2, q3, q4⟩ := hw.2.2.2 i _ hi (xcell_o ht)
  have hrr : r = (C, T, N) := Option.some.inj (h1.symm.trans hc)
  subst hrr
  obtain ⟨hSl, hfc, kC, hkC, hkind⟩ := hK.1 ci _ hc
  obtain ⟨cf, kf, fi, f, hif, hsl⟩ := hSl k0 hk
  have hlay := hts _ (hin _ (u_in_lay hk))
  unfold u_lay at hlay
  rw [if_pos hfin] at hlay
  have hst := (u_facts hfc hkC (u_lays hts hin hk) hif).1
  have hcf : m.cls = cf := by
    obtain ⟨_, _, c', _, _, _, -, -, hf', -, -, -, hown2, -⟩ := Cond.laysFinal_spec hlay
    have e1 : c' = cf := by have := hif.symm.trans hf'; simp at this; exact this.1.symm
    rw [hdecl C T N hc] at hown2
    rw [← e1]; exact Option.some.inj (hown.symm.trans hown2)
  have h6 := u_fits hfc hkC hkind (Or.inr hlay) hif hpt hn hfit
  refine W.putFinK hx hb hown (hts _ hln) hif hst hcf (hnm.trans hin2) (by rw [q2]; exact h6) q1 q3 (by rw [hsl]; exact k2_hasslot (q4 k0 hk)) rfl rfl d fun H' e1 e2 e3 => ?_
  rw [hsl] at e1
  refine kk  _ rfl H' _ ls (hw.put e2 e3 (fun z hz => xcell_I (up2_r I v hz) rfl rfl) (fun e he => ?_)) (by rw [hsl]; exact hS.put e2 e3 (xA.in (hw.2.2.1 i hi (by rw [ht]; exact fun q => by cases q)))) hl
  rw [xcell_o ht] at he
  cases he
  refine ⟨_, hc, t_OB.to (V := updV (vp_V (xobj (xb G) (xfk ci) (I i) (F i))) k0 (.int v)) ⟨_, e1, q2, q3, t_set q4 hap hk _⟩ (fun z0 _ => ?_)⟩
  rw [vp_updV_set (by rw [xobj_len]; omega), xobj_setI h0, up2_self]
theorem x_putrF (h : XOk Θ l cls cc nL k mc ms ret nm G own post) {idx ci k0 i : Nat} {ty : FieldType} {j : Nat} (g : xfp cls idx ci k0 ty true) (hi : i < n) (ht : Ty i = some (.inl ci)) (h0 : ¬ (xfk ci).getD k0 0 = 0) (hin2 : nm = "<init>") (hdecl : ∀ C T N, xcl[ci]? = some (C, T, N) → (T k0).1 = cls) (hn : narrow ty (.ref (xb G + j)) = .ref (xb G + j)) (hfit : fits ty (.ref (xb G + j)) = true) (d : decode cc pc = .ok (.putfield idx, 3)) (kk : ∀ F' : xF_T, F' = up2 F i k0 (some j) → X Θ ce sl n Ty I L F' (pc + 3) lv st) : X Θ ce sl n Ty I L F pc lv (.ref (xb G + j) :: .ref (xb G + i) :: st) := by
  obtain ⟨⟨p, l9, e, R, s, m, args, below, meth, c, Qx⟩, G9, own9, nL9, mc9, ms9, post9⟩ := Θ
  obtain ⟨⟨rfl, rfl, rfl, rfl, rfl, rfl, rfl⟩, hx, hb, hml, hown, hts, hKK, hK, hr, hlk, rfl, hnm, hsz, hmq⟩ := h
  intro H locs ls hw hS hl
  obtain ⟨C, T, N, ty0, hc, hk, hin, hln, hlen, hty, hnmx, hpt, hfin⟩ := g
  have hap := va_apart (own := cls) hts hin ty0 hty hnmx hK hc
  obtain ⟨r, h1, cell, q1, q2, q3, q4⟩ := hw.2.2.2 i _ hi (xcell_o ht)
  have hrr : r = (C, T, N) := Option.some.inj (h1.symm.trans hc)
  subst hrr
  obtain ⟨hSl, hfc, kC, hkC, hkind⟩ := hK.1 ci _ hc
  obtain ⟨cf, kf, fi, f, hif, hsl⟩ := hSl k0 hk
  have hlay := hts _ (hin _ (u_in_lay hk))
  unfold u_lay at hlay
  rw [if_pos hfin] at hlay
  have hst := (u_facts hfc hkC (u_lays hts hin hk) hif).1
  have hcf : m.cls = cf := by
    obtain ⟨_, _, c', _, _, _, -, -, hf', -, -, -, hown2, -⟩ := Cond.laysFinal_spec hlay
    have e1 : c' = cf := by have := hif.symm.trans hf'; simp at this; exact this.1.symm
    rw [hdecl C T N hc] at hown2
    rw [← e1]; exact Option.some.inj (hown.symm.trans hown2)
  have h6 := u_fits hfc hkC hkind (Or.inr hlay) hif hpt hn hfit
  refine W.putFinK hx hb hown (hts _ hln) hif hst hcf (hnm.trans hin2) (by rw [q2]; exact h6) q1 q3 (by rw [hsl]; exact k2_hasslot (q4 k0 hk)) rfl rfl d fun H' e1 e2 e3 => ?_
  rw [hsl] at e1
  refine kk  _ rfl H' _ ls (hw.put e2 e3 (fun z hz => xcell_I rfl rfl (up2_r F (some j) hz)) (fun e he => ?_)) (by rw [hsl]; exact hS.put e2 e3 (xA.in (hw.2.2.1 i hi (by rw [ht]; exact fun q => by cases q)))) hl
  rw [xcell_o ht] at he
  cases he
  refine ⟨_, hc, t_OB.to (V := updV (vp_V (xobj (xb G) (xfk ci) (I i) (F i))) k0 (.ref (xb G + j))) ⟨_, e1, q2, q3, t_set q4 hap hk _⟩ (fun z0 _ => ?_)⟩
  rw [vp_updV_set (by rw [xobj_len]; omega), show Value.ref (xb G + j) = xval (xb G) (some j) from rfl, xobj_setF h0, up2_self]
theorem x_putNF (h : XOk Θ l cls cc nL k mc ms ret nm G own post) {idx ci k0 i : Nat} {ty : FieldType}  (g : xfp cls idx ci k0 ty true) (hi : i < n) (ht : Ty i = some (.inl ci)) (h0 : ¬ (xfk ci).getD k0 0 = 0) (hin2 : nm = "<init>") (hdecl : ∀ C T N, xcl[ci]? = some (C, T, N) → (T k0).1 = cls) (hn : narrow ty (.null) = .null) (hfit : fits ty (.null) = true) (d : decode cc pc = .ok (.putfield idx, 3)) (kk : ∀ F' : xF_T, F' = up2 F i k0 none → X Θ ce sl n Ty I L F' (pc + 3) lv st) : X Θ ce sl n Ty I L F pc lv (.null :: .ref (xb G + i) :: st) := by
  obtain ⟨⟨p, l9, e, R, s, m, args, below, meth, c, Qx⟩, G9, own9, nL9, mc9, ms9, post9⟩ := Θ
  obtain ⟨⟨rfl, rfl, rfl, rfl, rfl, rfl, rfl⟩, hx, hb, hml, hown, hts, hKK, hK, hr, hlk, rfl, hnm, hsz, hmq⟩ := h
  intro H locs ls hw hS hl
  obtain ⟨C, T, N, ty0, hc, hk, hin, hln, hlen, hty, hnmx, hpt, hfin⟩ := g
  have hap := va_apart (own := cls) hts hin ty0 hty hnmx hK hc
  obtain ⟨r, h1, cell, q1, q2, q3, q4⟩ := hw.2.2.2 i _ hi (xcell_o ht)
  have hrr : r = (C, T, N) := Option.some.inj (h1.symm.trans hc)
  subst hrr
  obtain ⟨hSl, hfc, kC, hkC, hkind⟩ := hK.1 ci _ hc
  obtain ⟨cf, kf, fi, f, hif, hsl⟩ := hSl k0 hk
  have hlay := hts _ (hin _ (u_in_lay hk))
  unfold u_lay at hlay
  rw [if_pos hfin] at hlay
  have hst := (u_facts hfc hkC (u_lays hts hin hk) hif).1
  have hcf : m.cls = cf := by
    obtain ⟨_, _, c', _, _, _, -, -, hf', -, -, -, hown2, -⟩ := Cond.laysFinal_spec hlay
    have e1 : c' = cf := by have := hif.symm.trans hf'; simp at this; exact this.1.symm
    rw [hdecl C T N hc] at hown2
    rw [← e1]; exact Option.some.inj (hown.symm.trans hown2)
  have h6 := u_fits hfc hkC hkind (Or.inr hlay) hif hpt hn hfit
  refine W.putFinK hx hb hown (hts _ hln) hif hst hcf (hnm.trans hin2) (by rw [q2]; exact h6) q1 q3 (by rw [hsl]; exact k2_hasslot (q4 k0 hk)) rfl rfl d fun H' e1 e2 e3 => ?_
  rw [hsl] at e1
  refine kk  _ rfl H' _ ls (hw.put e2 e3 (fun z hz => xcell_I rfl rfl (up2_r F none hz)) (fun e he => ?_)) (by rw [hsl]; exact hS.put e2 e3 (xA.in (hw.2.2.1 i hi (by rw [ht]; exact fun q => by cases q)))) hl
  rw [xcell_o ht] at he
  cases he
  refine ⟨_, hc, t_OB.to (V := updV (vp_V (xobj (xb G) (xfk ci) (I i) (F i))) k0 (.null)) ⟨_, e1, q2, q3, t_set q4 hap hk _⟩ (fun z0 _ => ?_)⟩
  rw [vp_updV_set (by rw [xobj_len]; omega), show Value.null = xval (xb G) none from rfl, xobj_setF h0, up2_self]
theorem xarr_I {b t n : Nat} {I : Nat → Int32} {L : Nat → Int64} {F : Nat → Option Nat} (h : t < 4) : xarr b t n I L F = (n, .inl I) := by
  unfold xarr
  rw [if_pos h]
theorem xarr_L {b n : Nat} {I : Nat → Int32} {L : Nat → Int64} {F : Nat → Option Nat} : xarr b 4 n I L F = (n, .inr (.inl L)) := by
  unfold xarr
  rw [if_neg (by decide), if_pos rfl]
theorem xarr_F {b t n : Nat} {I : Nat → Int32} {L : Nat → Int64} {F : Nat → Option Nat} (h : 5 ≤ t) : xarr b t n I L F = (n, .inr (.inr (.inr (.inr (fun j => (F j).map (fun x => b + x)))))) := by
  unfold xarr
  rw [if_neg (by omega), if_neg (by omega)]
theorem Wd.arI {G : xG_T} {own : Nat → Prop} {n : Nat} {Ty : Nat → xs_T} {I : xI_T} {L : xL_T} {F : xF_T} {H : Heap} (hw : Wd G own n Ty I L F H) {i t N : Nat} (hi : i < n) (ht : Ty i = some (.inr (t, N))) (h4 : t < 4) : H[xb G + i]? = some (arrV (G.2.1 t) N (fun j => .int (I i j))) := by
  have h := hw.2.2.2 i _ hi (xcell_a ht)
  rw [xarr_I h4] at h
  exact h
theorem Wd.arL {G : xG_T} {own : Nat → Prop} {n : Nat} {Ty : Nat → xs_T} {I : xI_T} {L : xL_T} {F : xF_T} {H : Heap} (hw : Wd G own n Ty I L F H) {i N : Nat} (hi : i < n) (ht : Ty i = some (.inr (4, N))) : H[xb G + i]? = some (arrV (G.2.1 4) N (fun j => .long (L i j))) := by
  have h := hw.2.2.2 i _ hi (xcell_a ht)
  rw [xarr_L] at h
  exact h
theorem Wd.arF {G : xG_T} {own : Nat → Prop} {n : Nat} {Ty : Nat → xs_T} {I : xI_T} {L : xL_T} {F : xF_T} {H : Heap} (hw : Wd G own n Ty I L F H) {i t N : Nat} (hi : i < n) (ht : Ty i = some (.inr (t, N))) (h5 : 5 ≤ t) : H[xb G + i]? = some (arrV (G.2.1 t) N (fun j => va_rf ((F i j).map (fun x => xb G + x)))) := by
  have h := hw.2.2.2 i _ hi (xcell_a ht)
  rw [xarr_F h5] at h
  exact h
theorem x_iald (h : XOk Θ l cls cc nL k mc ms ret nm G own post) {i N : Nat} {j : Int32} (hi : i < n) (ht : Ty i = some (.inr (0, N))) (hin : vp_in j N) (a : Nat) (ha : j.toNatClampNeg = a) (d : decode cc pc = .ok (.iaload, 1)) (kk : X Θ ce sl n Ty I L F (pc + 1) lv (.int (I i a) :: st)) : X Θ ce sl n Ty I L F pc lv (.int j :: .ref (xb G + i) :: st) := by
  obtain ⟨⟨p, l9, e, R, s, m, args, below, meth, c, Qx⟩, G9, own9, nL9, mc9, ms9, post9⟩ := Θ
  obtain ⟨⟨rfl, rfl, rfl, rfl, rfl, rfl, rfl⟩, hx, hb, hml, hown, hts, hKK, hK, hr, hlk, rfl, hnm, hsz, hmq⟩ := h
  subst ha
  intro H locs ls hw hS hl
  exact va_iald hx hb hK (hw.at hi (xcell_a ht)) 0 0 rfl rfl hin d (kk H locs ls hw hS hl)
theorem x_bald (h : XOk Θ l cls cc nL k mc ms ret nm G own post) {i N : Nat} {j : Int32} (hi : i < n) (ht : Ty i = some (.inr (1, N))) (hin : vp_in j N) (a : Nat) (ha : j.toNatClampNeg = a) (d : decode cc pc = .ok (.baload, 1)) (kk : X Θ ce sl n Ty I L F (pc + 1) lv (.int (I i a) :: st)) : X Θ ce sl n Ty I L F pc lv (.int j :: .ref (xb G + i) :: st) := by
  obtain ⟨⟨p, l9, e, R, s, m, args, below, meth, c, Qx⟩, G9, own9, nL9, mc9, ms9, post9⟩ := Θ
  obtain ⟨⟨rfl, rfl, rfl, rfl, rfl, rfl, rfl⟩, hx, hb, hml, hown, hts, hKK, hK, hr, hlk, rfl, hnm, hsz, hmq⟩ := h
  subst ha
  intro H locs ls hw hS hl
  exact va_bald hx hb hK (hw.at hi (xcell_a ht)) 0 1 rfl rfl hin d (kk H locs ls hw hS hl)
theorem x_sald (h : XOk Θ l cls cc nL k mc ms ret nm G own post) {i N : Nat} {j : Int32} (hi : i < n) (ht : Ty i = some (.inr (2, N))) (hin : vp_in j N) (a : Nat) (ha : j.toNatClampNeg = a) (d : decode cc pc = .ok (.saload, 1)) (kk : X Θ ce sl n Ty I L F (pc + 1) lv (.int (I i a) :: st)) : X Θ ce sl n Ty I L F pc lv (.int j :: .ref (xb G + i) :: st) := by
  obtain ⟨⟨p, l9, e, R, s, m, args, below, meth, c, Qx⟩, G9, own9, nL9, mc9, ms9, post9⟩ := Θ
  obtain ⟨⟨rfl, rfl, rfl, rfl, rfl, rfl, rfl⟩, hx, hb, hml, hown, hts, hKK, hK, hr, hlk, rfl, hnm, hsz, hmq⟩ := h
  subst ha
  intro H locs ls hw hS hl
  exact va_sald hx hb hK (hw.at hi (xcell_a ht)) 0 2 rfl rfl hin d (kk H locs ls hw hS hl)
theorem x_zald (h : XOk Θ l cls cc nL k mc ms ret nm G own post) {i N : Nat} {j : Int32} (hi : i < n) (ht : Ty i = some (.inr (3, N))) (hin : vp_in j N) (a : Nat) (ha : j.toNatClampNeg = a) (d : decode cc pc = .ok (.baload, 1)) (kk : X Θ ce sl n Ty I L F (pc + 1) lv (.int (I i a) :: st)) : X Θ ce sl n Ty I L F pc lv (.int j :: .ref (xb G + i) :: st) := by
  obtain ⟨⟨p, l9, e, R, s, m, args, below, meth, c, Qx⟩, G9, own9, nL9, mc9, ms9, post9⟩ := Θ
  obtain ⟨⟨rfl, rfl, rfl, rfl, rfl, rfl, rfl⟩, hx, hb, hml, hown, hts, hKK, hK, hr, hlk, rfl, hnm, hsz, hmq⟩ := h
  subst ha
  intro H locs ls hw hS hl
  exact va_zald hx hb hK (hw.at hi (xcell_a ht)) 0 3 rfl rfl hin d (kk H locs ls hw hS hl)
theorem x_lald (h : XOk Θ l cls cc nL k mc ms ret nm G own post) {i N : Nat} {j : Int32} (hi : i < n) (ht : Ty i = some (.inr (4, N))) (hin : vp_in j N) (a : Nat) (ha : j.toNatClampNeg = a) (d : decode cc pc = .ok (.laload, 1)) (kk : X Θ ce sl n Ty I L F (pc + 1) lv (.long (L i a) :: st)) : X Θ ce sl n Ty I L F pc lv (.int j :: .ref (xb G + i) :: st) := by
  obtain ⟨⟨p, l9, e, R, s, m, args, below, meth, c, Qx⟩, G9, own9, nL9, mc9, ms9, post9⟩ := Θ
  obtain ⟨⟨rfl, rfl, rfl, rfl, rfl, rfl, rfl⟩, hx, hb, hml, hown, hts, hKK, hK, hr, hlk, rfl, hnm, hsz, hmq⟩ := h
  subst ha
  intro H locs ls hw hS hl
  exact va_lald hx hb hK (hw.at hi (xcell_a ht)) 0 4 rfl rfl hin d (kk H locs ls hw hS hl)
theorem x_alen (h : XOk Θ l cls cc nL k mc ms ret nm G own post) {i N t : Nat} {v : Int32} (hi : i < n) (ht : Ty i = some (.inr (t, N))) (htt : t < 11) (hv : Int32.ofNat N = v) (d : decode cc pc = .ok (.arraylength, 1)) (kk : X Θ ce sl n Ty I L F (pc + 1) lv (.int v :: st)) : X Θ ce sl n Ty I L F pc lv (.ref (xb G + i) :: st) := by
  obtain ⟨⟨p, l9, e, R, s, m, args, below, meth, c, Qx⟩, G9, own9, nL9, mc9, ms9, post9⟩ := Θ
  obtain ⟨⟨rfl, rfl, rfl, rfl, rfl, rfl, rfl⟩, hx, hb, hml, hown, hts, hKK, hK, hr, hlk, rfl, hnm, hsz, hmq⟩ := h
  intro H locs ls hw hS hl
  have htys : ∃ ty, (xtys G.2.1)[t]? = some (G.2.1 t, ty) := by
    match t, htt with
    | 0, _ => exact ⟨_, rfl⟩
    | 1, _ => exact ⟨_, rfl⟩
    | 2, _ => exact ⟨_, rfl⟩
    | 3, _ => exact ⟨_, rfl⟩
    | 4, _ => exact ⟨_, rfl⟩
    | 5, _ => exact ⟨_, rfl⟩
    | 6, _ => exact ⟨_, rfl⟩
    | 7, _ => exact ⟨_, rfl⟩
    | 8, _ => exact ⟨_, rfl⟩
    | 9, _ => exact ⟨_, rfl⟩
    | 10, _ => exact ⟨_, rfl⟩
    | z + 11, q => exact absurd q (by omega)
  obtain ⟨ty, hty⟩ := htys
  exact va_alen hx hb hK (hw.at hi (xcell_a ht)) 0 t rfl hty hv d (kk H locs ls hw hS hl)
theorem x_iast (h : XOk Θ l cls cc nL k mc ms ret nm G own post) {i N : Nat} {j v : Int32} (hi : i < n) (ht : Ty i = some (.inr (0, N))) (hin : vp_in j N) (a : Nat) (ha : j.toNatClampNeg = a) (d : decode cc pc = .ok (.iastore, 1)) (kk : ∀ I' : xI_T, I' = up2 I i a (v) → X Θ ce sl n Ty I' L F (pc + 1) lv st) : X Θ ce sl n Ty I L F pc lv (.int v :: .int j :: .ref (xb G + i) :: st) := by
  obtain ⟨⟨p, l9, e, R, s, m, args, below, meth, c, Qx⟩, G9, own9, nL9, mc9, ms9, post9⟩ := Θ
  obtain ⟨⟨rfl, rfl, rfl, rfl, rfl, rfl, rfl⟩, hx, hb, hml, hown, hts, hKK, hK, hr, hlk, rfl, hnm, hsz, hmq⟩ := h
  subst ha
  intro H locs ls hw hS hl
  refine W.iast hx hb (hw.arI hi ht (by decide)) ((hK.2 0 _ rfl).1 N (fun j => .int (I i j))) (fun q => by cases q) (by show ¬ (j < 0 ∨ (arrV _ _ _).slots.size ≤ _); rw [arrV_size]; exact hin) rfl rfl d fun H1 e z oq => ?_
  refine kk _ rfl H1 _ ls (hw.put z oq (fun j hj => xcell_I (up2_r I _ hj) rfl rfl) (fun e' he => ?_)) (hS.put z oq (xA.in (hw.2.2.1 i hi (by rw [ht]; exact fun q => by cases q)))) hl
  rw [xcell_a ht] at he
  cases he
  rw [xarr_I (by decide)]
  show H1[xb G + i]? = some (vp_cell _ _)
  rw [vp_cell_i, e, arrV_store]
  congr 2
  funext q
  by_cases hq : q = j.toNatClampNeg
  · subst hq
    simp [updV, up2, vp_nar]
    try rfl
  · simp [updV, up2, hq]
theorem x_bast (h : XOk Θ l cls cc nL k mc ms ret nm G own post) {i N : Nat} {j v : Int32} (hi : i < n) (ht : Ty i = some (.inr (1, N))) (hin : vp_in j N) (a : Nat) (ha : j.toNatClampNeg = a) (d : decode cc pc = .ok (.bastore, 1)) (kk : ∀ I' : xI_T, I' = up2 I i a (vp_nar .byte v) → X Θ ce sl n Ty I' L F (pc + 1) lv st) : X Θ ce sl n Ty I L F pc lv (.int v :: .int j :: .ref (xb G + i) :: st) := by
  obtain ⟨⟨p, l9, e, R, s, m, args, below, meth, c, Qx⟩, G9, own9, nL9, mc9, ms9, post9⟩ := Θ
  obtain ⟨⟨rfl, rfl, rfl, rfl, rfl, rfl, rfl⟩, hx, hb, hml, hown, hts, hKK, hK, hr, hlk, rfl, hnm, hsz, hmq⟩ := h
  subst ha
  intro H locs ls hw hS hl
  refine W.bast hx hb (hw.arI hi ht (by decide)) ((hK.2 1 _ rfl).1 N (fun j => .int (I i j))) (fun q => by cases q) (by show ¬ (j < 0 ∨ (arrV _ _ _).slots.size ≤ _); rw [arrV_size]; exact hin) rfl rfl d fun H1 e z oq => ?_
  refine kk _ rfl H1 _ ls (hw.put z oq (fun j hj => xcell_I (up2_r I _ hj) rfl rfl) (fun e' he => ?_)) (hS.put z oq (xA.in (hw.2.2.1 i hi (by rw [ht]; exact fun q => by cases q)))) hl
  rw [xcell_a ht] at he
  cases he
  rw [xarr_I (by decide)]
  show H1[xb G + i]? = some (vp_cell _ _)
  rw [vp_cell_i, e, arrV_store]
  congr 2
  funext q
  by_cases hq : q = j.toNatClampNeg
  · subst hq
    simp [updV, up2, vp_nar]
    try rfl
  · simp [updV, up2, hq]
theorem x_sast (h : XOk Θ l cls cc nL k mc ms ret nm G own post) {i N : Nat} {j v : Int32} (hi : i < n) (ht : Ty i = some (.inr (2, N))) (hin : vp_in j N) (a : Nat) (ha : j.toNatClampNeg = a) (d : decode cc pc = .ok (.sastore, 1)) (kk : ∀ I' : xI_T, I' = up2 I i a (vp_nar .short v) → X Θ ce sl n Ty I' L F (pc + 1) lv st) : X Θ ce sl n Ty I L F pc lv (.int v :: .int j :: .ref (xb G + i) :: st) := by
  obtain ⟨⟨p, l9, e, R, s, m, args, below, meth, c, Qx⟩, G9, own9, nL9, mc9, ms9, post9⟩ := Θ
  obtain ⟨⟨rfl, rfl, rfl, rfl, rfl, rfl, rfl⟩, hx, hb, hml, hown, hts, hKK, hK, hr, hlk, rfl, hnm, hsz, hmq⟩ := h
  subst ha
  intro H locs ls hw hS hl
  refine W.sast hx hb (hw.arI hi ht (by decide)) ((hK.2 2 _ rfl).1 N (fun j => .int (I i j))) (fun q => by cases q) (by show ¬ (j < 0 ∨ (arrV _ _ _).slots.size ≤ _); rw [arrV_size]; exact hin) rfl rfl d fun H1 e z oq => ?_
  refine kk _ rfl H1 _ ls (hw.put z oq (fun j hj => xcell_I (up2_r I _ hj) rfl rfl) (fun e' he => ?_)) (hS.put z oq (xA.in (hw.2.2.1 i hi (by rw [ht]; exact fun q => by cases q)))) hl
  rw [xcell_a ht] at he
  cases he
  rw [xarr_I (by decide)]
  show H1[xb G + i]? = some (vp_cell _ _)
  rw [vp_cell_i, e, arrV_store]
  congr 2
  funext q
  by_cases hq : q = j.toNatClampNeg
  · subst hq
    simp [updV, up2, vp_nar]
    try rfl
  · simp [updV, up2, hq]
theorem x_zast (h : XOk Θ l cls cc nL k mc ms ret nm G own post) {i N : Nat} {j v : Int32} (hi : i < n) (ht : Ty i = some (.inr (3, N))) (hin : vp_in j N) (a : Nat) (ha : j.toNatClampNeg = a) (d : decode cc pc = .ok (.bastore, 1)) (kk : ∀ I' : xI_T, I' = up2 I i a (vp_nar .boolean v) → X Θ ce sl n Ty I' L F (pc + 1) lv st) : X Θ ce sl n Ty I L F pc lv (.int v :: .int j :: .ref (xb G + i) :: st) := by
  obtain ⟨⟨p, l9, e, R, s, m, args, below, meth, c, Qx⟩, G9, own9, nL9, mc9, ms9, post9⟩ := Θ
  obtain ⟨⟨rfl, rfl, rfl, rfl, rfl, rfl, rfl⟩, hx, hb, hml, hown, hts, hKK, hK, hr, hlk, rfl, hnm, hsz, hmq⟩ := h
  subst ha
  intro H locs ls hw hS hl
  refine W.zast hx hb (hw.arI hi ht (by decide)) ((hK.2 3 _ rfl).1 N (fun j => .int (I i j))) (fun q => by cases q) (by show ¬ (j < 0 ∨ (arrV _ _ _).slots.size ≤ _); rw [arrV_size]; exact hin) rfl rfl d fun H1 e z oq => ?_
  refine kk _ rfl H1 _ ls (hw.put z oq (fun j hj => xcell_I (up2_r I _ hj) rfl rfl) (fun e' he => ?_)) (hS.put z oq (xA.in (hw.2.2.1 i hi (by rw [ht]; exact fun q => by cases q)))) hl
  rw [xcell_a ht] at he
  cases he
  rw [xarr_I (by decide)]
  show H1[xb G + i]? = some (vp_cell _ _)
  rw [vp_cell_i, e, arrV_store]
  congr 2
  funext q
  by_cases hq : q = j.toNatClampNeg
  · subst hq
    simp [updV, up2, vp_nar]
    try rfl
  · simp [updV, up2, hq]
theorem x_last (h : XOk Θ l cls cc nL k mc ms ret nm G own post) {i N : Nat} {j : Int32} {v : Int64} (hi : i < n) (ht : Ty i = some (.inr (4, N))) (hin : vp_in j N) (a : Nat) (ha : j.toNatClampNeg = a) (d : decode cc pc = .ok (.lastore, 1)) (kk : ∀ L' : xL_T, L' = up2 L i a v → X Θ ce sl n Ty I L' F (pc + 1) lv st) : X Θ ce sl n Ty I L F pc lv (.long v :: .int j :: .ref (xb G + i) :: st) := by
  obtain ⟨⟨p, l9, e, R, s, m, args, below, meth, c, Qx⟩, G9, own9, nL9, mc9, ms9, post9⟩ := Θ
  obtain ⟨⟨rfl, rfl, rfl, rfl, rfl, rfl, rfl⟩, hx, hb, hml, hown, hts, hKK, hK, hr, hlk, rfl, hnm, hsz, hmq⟩ := h
  subst ha
  intro H locs ls hw hS hl
  refine W.last hx hb (hw.arL hi ht) ((hK.2 4 _ rfl).1 N (fun j => .long (L i j))) (fun q => by cases q) (by show ¬ (j < 0 ∨ (arrV _ _ _).slots.size ≤ _); rw [arrV_size]; exact hin) rfl rfl d fun H1 e z oq => ?_
  refine kk _ rfl H1 _ ls (hw.put z oq (fun j hj => xcell_I rfl (up2_r L _ hj) rfl) (fun e' he => ?_)) (hS.put z oq (xA.in (hw.2.2.1 i hi (by rw [ht]; exact fun q => by cases q)))) hl
  rw [xcell_a ht] at he
  cases he
  rw [xarr_L]
  show H1[xb G + i]? = some (vp_cell _ _)
  rw [vp_cell_l, e, arrV_store]
  congr 2
  funext q
  by_cases hq : q = j.toNatClampNeg
  · subst hq
    simp [updV, up2]
  · simp [updV, up2, hq]
/-- what a call's own words say -/
def xcv (cls : String) (idx ci : Nat) (y : MethodName) (cy : ByteArray) (nLy : Nat) (rty : Option FieldType) (na : Nat) : Prop := ∃ (C : String) (T : u_T) (N : Nat), xcl[ci]? = some (C, T, N) ∧ GoodIn lw_all (wsV cls idx C y (ws_ y cy nLy rty)) ∧ y.cls = C ∧ y.cls ≠ "java/lang/invoke/MethodHandle" ∧ y.cls ≠ "java/lang/invoke/VarHandle" ∧ (parseMethodDescriptor y.desc).map (fun d => d.parameters.length) = some na
def xcs (cls : String) (idx : Nat) (y : MethodName) (cy : ByteArray) (nLy : Nat) (rty : Option FieldType) (na : Nat) : Prop := GoodIn lw_all (va_wsS cls idx y (ws_ y cy nLy rty)) ∧ y.cls ≠ "java/lang/invoke/MethodHandle" ∧ y.cls ≠ "java/lang/invoke/VarHandle" ∧ (parseMethodDescriptor y.desc).map (fun d => d.parameters.length) = some na
theorem xblind {G : xG_T} {own : Nat → Prop} {n : Nat} {Ty : Nat → xs_T} {I : xI_T} {L : xL_T} {F : xF_T} {av : List Value} : FrameBlind (va_Pc av (fun U => Wd G own n Ty I L F U.heap ∧ xKK G U)) := fun _ _ _ _ q => q
theorem x_callV (h : XOk Θ l cls cc nL k mc ms ret nm G own post) {i ci : Nat} {y : MethodName} {cy : ByteArray} {nLy k' mc' ms' na idx : Nat} {rty : Option FieldType} {As rest : List Value} {post' : xP_T} (hM : Cg l k' mc' ms' y cy nLy rty G own (.ref (xb G + i) :: As) n Ty I L F post') (g : xcv cls idx ci y cy nLy rty na) (hi : i < n) (ht : Ty i = some (.inl ci)) (d : decode cc pc = .ok (.invokevirtual idx, 3)) (hk : k' < k ∧ nLy ≤ 45) (hce : ce + mc' ≤ mc ∧ sl + ms' ≤ ms) (hna : As.length = na) (hrest : (rest.map fun v => v.category).sum ≤ 8)
    (kk : ∀ (v : Option Value) (n' : Nat) (Ty' : Nat → xs_T) (I' : xI_T) (L' : xL_T) (F' : xF_T), post' v n' Ty' I' L' F' → X Θ (ce + mc') (sl + ms') n' Ty' I' L' F' (pc + 3) lv (v.toList ++ rest)) : X Θ ce sl n Ty I L F pc lv (As.reverse ++ .ref (xb G + i) :: rest) := by
  obtain ⟨⟨p, l9, e, R, s, m, args, below, meth, c, Qx⟩, G9, own9, nL9, mc9, ms9, post9⟩ := Θ
  obtain ⟨⟨rfl, rfl, rfl, rfl, rfl, rfl, rfl⟩, hx, hb, hml, hown, hts, hKK, hK, hr, hlk, rfl, hnm, hsz, hmq⟩ := h
  intro H locs ls hw hS hl
  obtain ⟨C, T, N, hc, hg, hd⟩ := g
  have hr0 : va_Run p l e (xrm k mc ms) s m args below meth c H locs ce sl mc' ms' (F0 m pc ls (As.reverse ++ .ref (xb G + i) :: rest)) rest (xQ G own post' (.ref (xb G + i) :: As : List Value).toArray) (xA G own) := va_runV (rest := rest) ⟨hx, hb, hml, hown, hts⟩ hM (cwV (R := xrm k mc ms) na hts hg rfl rfl rfl hd ⟨hk.1, by show 8 + (nLy + 11) + 64 * k' ≤ 64 * k; omega⟩) ⟨xblind, va_recv hK (hw.at hi (xcell_o ht)) hc (q0 := 0) rfl, fun U hU hW => ⟨rfl, by rw [hU]; exact hw, hKK.warm hW⟩⟩ rfl hna hl.1 (rfl : (F0 m pc ls (As.reverse ++ .ref (xb G + i) :: rest)).stack = _) (lv_room hrest) d hce
  intro T hT Xs
  obtain ⟨v, st₀, t, T', L0, h0, X', hL, e1, e2, ⟨⟨v', n', Ty', I', L', F', hv, hp, hw'⟩, hz, hkp⟩, hst⟩ := hr0 T hT Xs
  cases hv
  rw [h0] at hz hkp
  obtain ⟨t2, a1, b1⟩ := kk v n' Ty' I' L' F' hp T'.heap (locs ++ L0) ls (by rw [e1]; exact hw')
    ⟨Nat.le_trans hS.1 (by rw [e1]; exact hz), fun q h1 h2 => by rw [e1, hkp q (Nat.lt_of_lt_of_le h1 hS.1) h2]; exact hS.2.1 q h1 h2, fun q hq => by
      rcases List.mem_append.mp hq with hq | hq
      · exact hS.2.2 q hq
      · exact hL q hq⟩ hl T' rfl X'
  exact ⟨t2, hst t2 a1, b1⟩
theorem x_callVEi (h : XOk Θ l cls cc nL k mc ms ret nm G own post) {i ci : Nat} {y : MethodName} {cy : ByteArray} {nLy k' na idx n2 : Nat} {Ty2 : Nat → xs_T} {I2 : xI_T} {L2 : xL_T} {F2 : xF_T} {rty : Option FieldType} {As rest : List Value} {r : Int32} (hM : Cg l k' 0 0 y cy nLy rty G own (.ref (xb G + i) :: As) n Ty I L F (xpE (some (.int r)) n2 Ty2 I2 L2 F2)) (g : xcv cls idx ci y cy nLy rty na) (hi : i < n) (ht : Ty i = some (.inl ci)) (d : decode cc pc = .ok (.invokevirtual idx, 3)) (hk : k' < k ∧ nLy ≤ 45) (hce : ce ≤ mc ∧ sl ≤ ms) (hna : As.length = na) (hrest : (rest.map fun v => v.category).sum ≤ 8)
    (kk : X Θ ce sl n2 Ty2 I2 L2 F2 (pc + 3) lv (.int r :: rest)) : X Θ ce sl n Ty I L F pc lv (As.reverse ++ .ref (xb G + i) :: rest) := by
  refine x_callV h hM g hi ht d hk hce hna hrest ?_
  rintro _ _ _ _ _ _ ⟨rfl, rfl, rfl, rfl, rfl, rfl⟩
  exact kk
theorem x_callVEl (h : XOk Θ l cls cc nL k mc ms ret nm G own post) {i ci : Nat} {y : MethodName} {cy : ByteArray} {nLy k' na idx n2 : Nat} {Ty2 : Nat → xs_T} {I2 : xI_T} {L2 : xL_T} {F2 : xF_T} {rty : Option FieldType} {As rest : List Value} {r : Int64} (hM : Cg l k' 0 0 y cy nLy rty G own (.ref (xb G + i) :: As) n Ty I L F (xpE (some (.long r)) n2 Ty2 I2 L2 F2)) (g : xcv cls idx ci y cy nLy rty na) (hi : i < n) (ht : Ty i = some (.inl ci)) (d : decode cc pc = .ok (.invokevirtual idx, 3)) (hk : k' < k ∧ nLy ≤ 45) (hce : ce ≤ mc ∧ sl ≤ ms) (hna : As.length = na) (hrest : (rest.map fun v => v.category).sum ≤ 8)
    (kk : X Θ ce sl n2 Ty2 I2 L2 F2 (pc + 3) lv (.long r :: rest)) : X Θ ce sl n Ty I L F pc lv (As.reverse ++ .ref (xb G + i) :: rest) := by
  refine x_callV h hM g hi ht d hk hce hna hrest ?_
  rintro _ _ _ _ _ _ ⟨rfl, rfl, rfl, rfl, rfl, rfl⟩
  exact kk
theorem x_callVEv (h : XOk Θ l cls cc nL k mc ms ret nm G own post) {i ci : Nat} {y : MethodName} {cy : ByteArray} {nLy k' na idx n2 : Nat} {Ty2 : Nat → xs_T} {I2 : xI_T} {L2 : xL_T} {F2 : xF_T} {rty : Option FieldType} {As rest : List Value}  (hM : Cg l k' 0 0 y cy nLy rty G own (.ref (xb G + i) :: As) n Ty I L F (xpE (none) n2 Ty2 I2 L2 F2)) (g : xcv cls idx ci y cy nLy rty na) (hi : i < n) (ht : Ty i = some (.inl ci)) (d : decode cc pc = .ok (.invokevirtual idx, 3)) (hk : k' < k ∧ nLy ≤ 45) (hce : ce ≤ mc ∧ sl ≤ ms) (hna : As.length = na) (hrest : (rest.map fun v => v.category).sum ≤ 8)
    (kk : X Θ ce sl n2 Ty2 I2 L2 F2 (pc + 3) lv rest) : X Θ ce sl n Ty I L F pc lv (As.reverse ++ .ref (xb G + i) :: rest) := by
  refine x_callV h hM g hi ht d hk hce hna hrest ?_
  rintro _ _ _ _ _ _ ⟨rfl, rfl, rfl, rfl, rfl, rfl⟩
  exact kk
theorem x_callS (h : XOk Θ l cls cc nL k mc ms ret nm G own post)  {y : MethodName} {cy : ByteArray} {nLy k' mc' ms' na idx : Nat} {rty : Option FieldType} {As rest : List Value} {post' : xP_T} (hM : Cg l k' mc' ms' y cy nLy rty G own (As) n Ty I L F post') (g : xcs cls idx y cy nLy rty na)  (d : decode cc pc = .ok (.invokestatic idx, 3)) (hk : k' < k ∧ nLy ≤ 45) (hce : ce + mc' ≤ mc ∧ sl + ms' ≤ ms) (hna : As.length = na) (hrest : (rest.map fun v => v.category).sum ≤ 8)
    (kk : ∀ (v : Option Value) (n' : Nat) (Ty' : Nat → xs_T) (I' : xI_T) (L' : xL_T) (F' : xF_T), post' v n' Ty' I' L' F' → X Θ (ce + mc') (sl + ms') n' Ty' I' L' F' (pc + 3) lv (v.toList ++ rest)) : X Θ ce sl n Ty I L F pc lv (As.reverse ++ rest) := by
  obtain ⟨⟨p, l9, e, R, s, m, args, below, meth, c, Qx⟩, G9, own9, nL9, mc9, ms9, post9⟩ := Θ
  obtain ⟨⟨rfl, rfl, rfl, rfl, rfl, rfl, rfl⟩, hx, hb, hml, hown, hts, hKK, hK, hr, hlk, rfl, hnm, hsz, hmq⟩ := h
  intro H locs ls hw hS hl
  obtain ⟨hg, hd⟩ := g
  have hr0 : va_Run p l e (xrm k mc ms) s m args below meth c H locs ce sl mc' ms' (F0 m pc ls (As.reverse ++ rest)) rest (xQ G own post' (As : List Value).toArray) (xA G own) := va_runS (rest := rest) ⟨hx, hb, hml, hown, hts⟩ hM (va_cwS (R := xrm k mc ms) na hts hg rfl rfl rfl hd ⟨hk.1, by show 8 + (nLy + 11) + 64 * k' ≤ 64 * k; omega⟩) ⟨xblind, fun U hU hW => ⟨rfl, by rw [hU]; exact hw, hKK.warm hW⟩⟩ rfl hna hl.1 (rfl : (F0 m pc ls (As.reverse ++ rest)).stack = _) (lv_room hrest) d hce
  intro T hT Xs
  obtain ⟨v, st₀, t, T', L0, h0, X', hL, e1, e2, ⟨⟨v', n', Ty', I', L', F', hv, hp, hw'⟩, hz, hkp⟩, hst⟩ := hr0 T hT Xs
  cases hv
  rw [h0] at hz hkp
  obtain ⟨t2, a1, b1⟩ := kk v n' Ty' I' L' F' hp T'.heap (locs ++ L0) ls (by rw [e1]; exact hw')
    ⟨Nat.le_trans hS.1 (by rw [e1]; exact hz), fun q h1 h2 => by rw [e1, hkp q (Nat.lt_of_lt_of_le h1 hS.1) h2]; exact hS.2.1 q h1 h2, fun q hq => by
      rcases List.mem_append.mp hq with hq | hq
      · exact hS.2.2 q hq
      · exact hL q hq⟩ hl T' rfl X'
  exact ⟨t2, hst t2 a1, b1⟩
theorem x_callSEi (h : XOk Θ l cls cc nL k mc ms ret nm G own post)  {y : MethodName} {cy : ByteArray} {nLy k' na idx n2 : Nat} {Ty2 : Nat → xs_T} {I2 : xI_T} {L2 : xL_T} {F2 : xF_T} {rty : Option FieldType} {As rest : List Value} {r : Int32} (hM : Cg l k' 0 0 y cy nLy rty G own (As) n Ty I L F (xpE (some (.int r)) n2 Ty2 I2 L2 F2)) (g : xcs cls idx y cy nLy rty na)  (d : decode cc pc = .ok (.invokestatic idx, 3)) (hk : k' < k ∧ nLy ≤ 45) (hce : ce ≤ mc ∧ sl ≤ ms) (hna : As.length = na) (hrest : (rest.map fun v => v.category).sum ≤ 8)
    (kk : X Θ ce sl n2 Ty2 I2 L2 F2 (pc + 3) lv (.int r :: rest)) : X Θ ce sl n Ty I L F pc lv (As.reverse ++ rest) := by
  refine x_callS h hM g  d hk hce hna hrest ?_
  rintro _ _ _ _ _ _ ⟨rfl, rfl, rfl, rfl, rfl, rfl⟩
  exact kk
theorem x_callSEl (h : XOk Θ l cls cc nL k mc ms ret nm G own post)  {y : MethodName} {cy : ByteArray} {nLy k' na idx n2 : Nat} {Ty2 : Nat → xs_T} {I2 : xI_T} {L2 : xL_T} {F2 : xF_T} {rty : Option FieldType} {As rest : List Value} {r : Int64} (hM : Cg l k' 0 0 y cy nLy rty G own (As) n Ty I L F (xpE (some (.long r)) n2 Ty2 I2 L2 F2)) (g : xcs cls idx y cy nLy rty na)  (d : decode cc pc = .ok (.invokestatic idx, 3)) (hk : k' < k ∧ nLy ≤ 45) (hce : ce ≤ mc ∧ sl ≤ ms) (hna : As.length = na) (hrest : (rest.map fun v => v.category).sum ≤ 8)
    (kk : X Θ ce sl n2 Ty2 I2 L2 F2 (pc + 3) lv (.long r :: rest)) : X Θ ce sl n Ty I L F pc lv (As.reverse ++ rest) := by
  refine x_callS h hM g  d hk hce hna hrest ?_
  rintro _ _ _ _ _ _ ⟨rfl, rfl, rfl, rfl, rfl, rfl⟩
  exact kk
theorem x_callSEv (h : XOk Θ l cls cc nL k mc ms ret nm G own post)  {y : MethodName} {cy : ByteArray} {nLy k' na idx n2 : Nat} {Ty2 : Nat → xs_T} {I2 : xI_T} {L2 : xL_T} {F2 : xF_T} {rty : Option FieldType} {As rest : List Value}  (hM : Cg l k' 0 0 y cy nLy rty G own (As) n Ty I L F (xpE (none) n2 Ty2 I2 L2 F2)) (g : xcs cls idx y cy nLy rty na)  (d : decode cc pc = .ok (.invokestatic idx, 3)) (hk : k' < k ∧ nLy ≤ 45) (hce : ce ≤ mc ∧ sl ≤ ms) (hna : As.length = na) (hrest : (rest.map fun v => v.category).sum ≤ 8)
    (kk : X Θ ce sl n2 Ty2 I2 L2 F2 (pc + 3) lv rest) : X Θ ce sl n Ty I L F pc lv (As.reverse ++ rest) := by
  refine x_callS h hM g  d hk hce hna hrest ?_
  rintro _ _ _ _ _ _ ⟨rfl, rfl, rfl, rfl, rfl, rfl⟩
  exact kk
theorem x_callI (h : XOk Θ l cls cc nL k mc ms ret nm G own post) {i : Nat} {y : MethodName} {cy : ByteArray} {nLy k' mc' ms' na idx : Nat} {As rest : List Value} {post' : xP_T} (hM : Cg l k' mc' ms' y cy nLy none G own (.ref (xb G + i) :: As) n Ty I L F post') (g : GoodIn lw_all (ws_ y cy nLy none) ∧ Cond.initialized y.cls ∈ lw_all ∧ Cond.methodLink cls idx y ∈ lw_all ∧ Cond.instanceMethod y ∈ lw_all ∧ y.name = "<init>" ∧ y.cls ≠ "java/lang/invoke/MethodHandle" ∧ y.cls ≠ "java/lang/invoke/VarHandle" ∧ (parseMethodDescriptor y.desc).map (fun d => d.parameters.length) = some na)  (d : decode cc pc = .ok (.invokespecial idx, 3)) (hk : k' < k ∧ nLy ≤ 45) (hce : ce + mc' ≤ mc ∧ sl + ms' ≤ ms) (hna : As.length = na) (hrest : (rest.map fun v => v.category).sum ≤ 8)
    (kk : ∀ (v : Option Value) (n' : Nat) (Ty' : Nat → xs_T) (I' : xI_T) (L' : xL_T) (F' : xF_T), post' v n' Ty' I' L' F' → X Θ (ce + mc') (sl + ms') n' Ty' I' L' F' (pc + 3) lv (v.toList ++ rest)) : X Θ ce sl n Ty I L F pc lv (As.reverse ++ .ref (xb G + i) :: rest) := by
  obtain ⟨⟨p, l9, e, R, s, m, args, below, meth, c, Qx⟩, G9, own9, nL9, mc9, ms9, post9⟩ := Θ
  obtain ⟨⟨rfl, rfl, rfl, rfl, rfl, rfl, rfl⟩, hx, hb, hml, hown, hts, hKK, hK, hr, hlk, rfl, hnm, hsz, hmq⟩ := h
  intro H locs ls hw hS hl
  obtain ⟨hg, hg1, hg2, hg3, hg4, hd⟩ := g
  have hr0 : va_Run p l e (xrm k mc ms) s m args below meth c H locs ce sl mc' ms' (F0 m pc ls (As.reverse ++ .ref (xb G + i) :: rest)) rest (xQ G own post' (.ref (xb G + i) :: As : List Value).toArray) (xA G own) := va_runI (rest := rest) ⟨hx, hb, hml, hown, hts⟩ hM (cwI (R := xrm k mc ms) na hts hg rfl rfl rfl (hts _ hg1) (hts _ hg2) (hts _ hg3) hg4 hd ⟨hk.1, by show 8 + (nLy + 11) + 64 * k' ≤ 64 * k; omega⟩) ⟨xblind, fun U hU hW => ⟨rfl, by rw [hU]; exact hw, hKK.warm hW⟩⟩ rfl hna hl.1 (rfl : (F0 m pc ls (As.reverse ++ .ref (xb G + i) :: rest)).stack = _) (lv_room hrest) d hce
  intro T hT Xs
  obtain ⟨v, st₀, t, T', L0, h0, X', hL, e1, e2, ⟨⟨v', n', Ty', I', L', F', hv, hp, hw'⟩, hz, hkp⟩, hst⟩ := hr0 T hT Xs
  cases hv
  rw [h0] at hz hkp
  obtain ⟨t2, a1, b1⟩ := kk v n' Ty' I' L' F' hp T'.heap (locs ++ L0) ls (by rw [e1]; exact hw')
    ⟨Nat.le_trans hS.1 (by rw [e1]; exact hz), fun q h1 h2 => by rw [e1, hkp q (Nat.lt_of_lt_of_le h1 hS.1) h2]; exact hS.2.1 q h1 h2, fun q hq => by
      rcases List.mem_append.mp hq with hq | hq
      · exact hS.2.2 q hq
      · exact hL q hq⟩ hl T' rfl X'
  exact ⟨t2, hst t2 a1, b1⟩
theorem x_callIEv (h : XOk Θ l cls cc nL k mc ms ret nm G own post) {i : Nat} {y : MethodName} {cy : ByteArray} {nLy k' na idx n2 : Nat} {Ty2 : Nat → xs_T} {I2 : xI_T} {L2 : xL_T} {F2 : xF_T} {As rest : List Value}  (hM : Cg l k' 0 0 y cy nLy none G own (.ref (xb G + i) :: As) n Ty I L F (xpE (none) n2 Ty2 I2 L2 F2)) (g : GoodIn lw_all (ws_ y cy nLy none) ∧ Cond.initialized y.cls ∈ lw_all ∧ Cond.methodLink cls idx y ∈ lw_all ∧ Cond.instanceMethod y ∈ lw_all ∧ y.name = "<init>" ∧ y.cls ≠ "java/lang/invoke/MethodHandle" ∧ y.cls ≠ "java/lang/invoke/VarHandle" ∧ (parseMethodDescriptor y.desc).map (fun d => d.parameters.length) = some na)  (d : decode cc pc = .ok (.invokespecial idx, 3)) (hk : k' < k ∧ nLy ≤ 45) (hce : ce ≤ mc ∧ sl ≤ ms) (hna : As.length = na) (hrest : (rest.map fun v => v.category).sum ≤ 8)
    (kk : X Θ ce sl n2 Ty2 I2 L2 F2 (pc + 3) lv rest) : X Θ ce sl n Ty I L F pc lv (As.reverse ++ .ref (xb G + i) :: rest) := by
  refine x_callI h hM g  d hk hce hna hrest ?_
  rintro _ _ _ _ _ _ ⟨rfl, rfl, rfl, rfl, rfl, rfl⟩
  exact kk
end XR
