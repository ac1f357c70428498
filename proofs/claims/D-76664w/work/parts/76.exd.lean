/-! EXCEPTIONS: a cast that fails, a call through null, catching -/
def xhm (b : Bool) : String := (if b then "module " ++ "java.base" else "unnamed module") ++ " of loader " ++ "'bootstrap'"
def xct (b : Bool) (C E : String) : String := "class " ++ dotted C ++ " cannot be cast to class " ++ dotted E ++ " (" ++ (dotted C ++ " and " ++ dotted E ++ " are in " ++ xhm b) ++ ")"
/-- a class of the boot loader, in the package without a name -/
def xbc (k : Class) (C : String) : Prop := k.name = C ∧ k.hidden = none ∧ k.loader = none ∧ k.ofPrimitives = false
theorem xbc_of {vm : Vm} {C : String} {c : ClassId} (h : vm.findClass C = some c) (h1 : ((withoutBrackets C).length == 1) = false) : ∃ k : Class, vm.classes[c]? = some k ∧ xbc k C := by
  obtain ⟨hlt, hp, -⟩ := Array.findIdx?_eq_some_iff_getElem.mp h
  refine ⟨vm.classes[c], by simp [hlt], ?_⟩
  simp only [Bool.and_eq_true, beq_iff_eq] at hp
  obtain ⟨⟨⟨a, b⟩, d⟩, e⟩ := hp
  refine ⟨a, Option.isNone_iff_eq_none.mp b, Option.isNone_iff_eq_none.mp e, ?_⟩
  unfold Class.ofPrimitives
  generalize vm.classes[c] = k at a d ⊢
  cases hk : k.kind with
  | primitive t => rw [hk] at d; cases d
  | array x y => show ((withoutBrackets k.name).length == 1) = false; rw [a]; exact h1
  | ordinary => rfl
theorem xbc.alike {k k' : Class} {C : String} (h : xbc k C) (e : k' = { k with resolved := k'.resolved, nestHost := k'.nestHost, nestHostError := k'.nestHostError }) : xbc k' C := by
  rw [e]
  exact h
theorem xmod {vm : Vm} {k : Class} {C : String} (h : xbc k C) (hp : packageOf C = "") : vm.moduleOf k = vm.modules.find? fun m => m.loader == none && m.packages.contains "" := by
  obtain ⟨h1, h2, h3, h4⟩ := h
  unfold Vm.moduleOf
  rw [if_neg (by rw [h4]; decide), h3, h1, hp]
theorem xct_of {vm : Vm} {ks kt : Class} {C E : String} (h1 : xbc ks C) (h2 : xbc kt E) (p1 : packageOf C = "") (p2 : packageOf E = "") (hm : (vm.modules.all fun m => m.loader.isSome || m.name == "java.base" || !(castPackages_1.any fun p => m.packages.contains p)) = true) : ∃ b : Bool, checkcast.message vm ks kt = xct b C E := by
  have m1 := xmod (vm := vm) h1 p1
  have m2 := xmod (vm := vm) h2 p2
  have s1 : ks.shown = dotted C := by
    unfold Class.shown
    rw [h1.2.1, h1.1]
  have s2 : kt.shown = dotted E := by
    unfold Class.shown
    rw [h2.2.1, h2.1]
  have hl : vm.loaderName ks.loader = "'bootstrap'" := by
    rw [h1.2.2.1]
    rfl
  cases hf : vm.modules.find? fun m => m.loader == none && m.packages.contains "" with
  | none =>
    rw [hf] at m1 m2
    refine ⟨false, ?_⟩
    have hs : vm.sameModule ks kt = true := by
      unfold Vm.sameModule
      rw [m1, m2, h1.2.2.1, h2.2.2.1]
      rfl
    have hh : vm.home ks = xhm false := by
      unfold Vm.home
      rw [m1, hl]
      rfl
    unfold checkcast.message Vm.homes
    rw [if_pos hs, s1, s2, hh]
    rfl
  | some m =>
    rw [hf] at m1 m2
    refine ⟨true, ?_⟩
    have hs : vm.sameModule ks kt = true := by
      unfold Vm.sameModule
      rw [m1, m2]
      exact beq_self_eq_true _
    have hn : m.name = "java.base" := by
      have hp := List.find?_some hf
      simp only [Bool.and_eq_true, beq_iff_eq] at hp
      have hmem := List.mem_of_find?_eq_some hf
      have hq := (List.all_eq_true.mp hm) m hmem
      rw [hp.1] at hq
      have hany : (castPackages_1.any fun p => m.packages.contains p) = true := List.any_eq_true.mpr ⟨"", by decide, hp.2⟩
      rw [hany] at hq
      simpa using hq
    have hh : vm.home ks = xhm true := by
      unfold Vm.home
      rw [m1, hl]
      show "module " ++ m.name ++ " of loader " ++ "'bootstrap'" = _
      rw [hn]
      rfl
    unfold checkcast.message Vm.homes
    rw [if_pos hs, s1, s2, hh]
    rfl
/-- the casts that may fail -/
def xpA : List (String × String) := [("ThirdAfter$ShortRow", "ThirdAfter$ByteRow"), ("ThirdAfter$IntRow", "ThirdAfter$ByteRow"), ("ThirdAfter$LongRow", "ThirdAfter$ByteRow"), ("ThirdAfter$BooleanRow", "ThirdAfter$ByteRow"), ("ThirdAfter$ByteRow", "ThirdAfter$ShortRow"), ("ThirdAfter$IntRow", "ThirdAfter$ShortRow"), ("ThirdAfter$LongRow", "ThirdAfter$ShortRow"), ("ThirdAfter$BooleanRow", "ThirdAfter$ShortRow"), ("ThirdAfter$ByteRow", "ThirdAfter$IntRow"), ("ThirdAfter$ShortRow", "ThirdAfter$IntRow"), ("ThirdAfter$LongRow", "ThirdAfter$IntRow"), ("ThirdAfter$BooleanRow", "ThirdAfter$IntRow"), ("ThirdAfter$ByteRow", "ThirdAfter$LongRow"), ("ThirdAfter$ShortRow", "ThirdAfter$LongRow"), ("ThirdAfter$IntRow", "ThirdAfter$LongRow"), ("ThirdAfter$BooleanRow", "ThirdAfter$LongRow"), ("ThirdAfter$ByteRow", "ThirdAfter$BooleanRow"), ("ThirdAfter$ShortRow", "ThirdAfter$BooleanRow"), ("ThirdAfter$IntRow", "ThirdAfter$BooleanRow"), ("ThirdAfter$LongRow", "ThirdAfter$BooleanRow"), ("ThirdAfter$Baker", "ThirdAfter$ByteRow"), ("ThirdAfter$Priest", "ThirdAfter$ByteRow"), ("ThirdAfter$Cow", "ThirdAfter$ByteRow"), ("ThirdAfter$Rent", "ThirdAfter$ByteRow"), ("ThirdAfter$Dusk", "ThirdAfter$ByteRow"), ("ThirdAfter$Hound", "ThirdAfter$ByteRow"), ("ThirdAfter$Purse", "ThirdAfter$ByteRow"), ("ThirdAfter$Baker", "ThirdAfter$ShortRow"), ("ThirdAfter$Priest", "ThirdAfter$ShortRow"), ("ThirdAfter$Cow", "ThirdAfter$ShortRow"), ("ThirdAfter$Rent", "ThirdAfter$ShortRow"), ("ThirdAfter$Dusk", "ThirdAfter$ShortRow"), ("ThirdAfter$Hound", "ThirdAfter$ShortRow"), ("ThirdAfter$Purse", "ThirdAfter$ShortRow"), ("ThirdAfter$Baker", "ThirdAfter$Row"), ("ThirdAfter$Priest", "ThirdAfter$Row"), ("ThirdAfter$Cow", "ThirdAfter$Row"), ("ThirdAfter$Rent", "ThirdAfter$Row"), ("ThirdAfter$Dusk", "ThirdAfter$Row"), ("ThirdAfter$Hound", "ThirdAfter$Row"), ("ThirdAfter$Purse", "ThirdAfter$Row"), ("ThirdAfter$ByteRow", "ThirdAfter$Latch"), ("ThirdAfter$ShortRow", "ThirdAfter$Latch"), ("ThirdAfter$IntRow", "ThirdAfter$Latch"), ("ThirdAfter$LongRow", "ThirdAfter$Latch"), ("ThirdAfter$BooleanRow", "ThirdAfter$Latch")]
def xpB : List (String × String) := [("ThirdAfter$Latch", "ThirdAfter$ByteRow"), ("ThirdAfter$Latch", "ThirdAfter$ShortRow"), ("ThirdAfter$Latch", "ThirdAfter$Row")]
def xpairs : List (String × String) := xpA ++ xpB
theorem dot_len (C : String) : (dotted C).toList.length = C.toList.length := by
  unfold dotted turned
  rw [String.toList_ofList, List.length_map]
theorem lt_1 : "class ".toList = ['c', 'l', 'a', 's', 's', ' '] := by decide +kernel
theorem lt_2 : " cannot be cast to class ".toList.length = 25 := by decide +kernel
theorem lt_3 : " (".toList.length = 2 := by decide +kernel
theorem lt_4 : " and ".toList.length = 5 := by decide +kernel
theorem lt_5 : " are in ".toList.length = 8 := by decide +kernel
theorem lt_6 : ")".toList.length = 1 := by decide +kernel
theorem lt_7 : ∀ b : Bool, (xhm b).toList.length ≤ 60 := by decide +kernel
theorem lt_8 : notModelled.toList.head? = some (Char.ofNat 0) := by decide +kernel
theorem xct_len {b : Bool} {C E : String} (h1 : C.toList.length ≤ 30) (h2 : E.toList.length ≤ 30) : (xct b C E).toList.length ≤ 250 := by
  have h7 := lt_7 b
  have h0 : "class ".toList.length = 6 := by rw [lt_1]; rfl
  unfold xct
  simp only [String.toList_append, List.length_append, dot_len, h0, lt_2, lt_3, lt_4, lt_5, lt_6]
  omega
theorem xct_ne {b : Bool} {C E : String} : (xct b C E == notModelled) = false := by
  rw [beq_eq_false_iff_ne]
  intro e
  have e2 := congrArg (fun s => s.toList.head?) e
  simp only [lt_8] at e2
  unfold xct at e2
  simp only [String.toList_append, lt_1, List.cons_append, List.head?_cons] at e2
  exact absurd (Option.some.inj e2) (by decide)
def xctb (C E : String) : Bool := packageOf C == "" && packageOf E == "" && !((withoutBrackets C).length == 1) && !((withoutBrackets E).length == 1) && decide (C.toList.length ≤ 30) && decide (E.toList.length ≤ 30)
theorem xp_ncA : xpA.all (fun q => decide (Cond.not (.castable q.1 q.2) ∈ cjs narrow_1)) = true := by decide +kernel
theorem xp_ncB : xpB.all (fun q => decide (Cond.not (.castable q.1 q.2) ∈ cjs narrow_1)) = true := by decide +kernel
theorem xp_nc : xpairs.all (fun q => decide (Cond.not (.castable q.1 q.2) ∈ cjs narrow_1)) = true := by
  unfold xpairs
  rw [List.all_append, xp_ncA, xp_ncB]
  rfl
theorem xp_txA : xpA.all (fun q => xctb q.1 q.2) = true := by decide +kernel
theorem xp_txB : xpB.all (fun q => xctb q.1 q.2) = true := by decide +kernel
theorem xp_tx : xpairs.all (fun q => xctb q.1 q.2) = true := by
  unfold xpairs
  rw [List.all_append, xp_txA, xp_txB]
  rfl
theorem xp_1 {C E : String} (h : (C, E) ∈ xpairs) : Cond.not (.castable C E) ∈ cjs narrow_1 := of_decide_eq_true (List.all_eq_true.mp xp_nc _ h)
theorem xp_2 {C E : String} (h : (C, E) ∈ xpairs) : packageOf C = "" ∧ packageOf E = "" ∧ ((withoutBrackets C).length == 1) = false ∧ ((withoutBrackets E).length == 1) = false ∧ ∀ b : Bool, (xct b C E == notModelled) = false ∧ (stringBytes (stringToUtf16 (xct b C E))).size ≤ 1000 := by
  have z : xctb C E = true := List.all_eq_true.mp xp_tx (C, E) h
  unfold xctb at z
  simp only [Bool.and_eq_true, beq_iff_eq, Bool.not_eq_true', decide_eq_true_eq] at z
  obtain ⟨⟨⟨⟨⟨a, b⟩, c⟩, d⟩, e⟩, f⟩ := z
  refine ⟨a, b, c, d, fun x => ⟨xct_ne, ?_⟩⟩
  have h1 := stringBytes_size_le (stringToUtf16 (xct x C E))
  have h2 := utf16_size_le (xct x C E)
  have h3 := xct_len (b := x) e f
  omega
theorem xKK.mods {G : xG_T} {s : State} (h : xKK G s) {vm : Vm} (hW : s.WarmedH vm) : (vm.modules.all fun m => m.loader.isSome || m.name == "java.base" || !(castPackages_1.any fun p => m.packages.contains p)) = true := by
  have e1 : vm.modules = s.vm.modules := by rw [hW.1]
  have e2 : s.vm.modules = G.2.2.1.vm.modules := by rw [h.2.1]
  rw [e1, e2]
  exact h.1.2.2.2
section XR
variable {Θ : xT_T} {l : Launch} {cls : String} {cc : ByteArray} {nL k mc ms : Nat} {ret : Option FieldType} {nm : String} {G : xG_T} {own : Nat → Prop} {post : xP_T} {ce sl n : Nat} {Ty : Nat → xs_T} {I : xI_T} {L : xL_T} {F : xF_T} {pc : Nat} {lv : List (Option Value)} {st : List Value}
set_option maxHeartbeats 1000000 in
theorem x_castF (h : XOk Θ l cls cc nL k mc ms ret nm G own post) {idx i ci M : Nat} {E C : String} {T : u_T} (q : Cond.classLink cls idx E ∈ lw_all) (hi : i < n) (ht : Ty i = some (.inl ci)) (hcl : xcl[ci]? = some (C, T, M)) (hp : (C, E) ∈ xpairs) (d : decode cc pc = .ok (.checkcast idx, 3))
    (kk : ∀ t : String, (t == notModelled) = false → (stringBytes (stringToUtf16 t)).size ≤ 1000 → XNote Θ ce sl n Ty I L F pc lv (.ref (xb G + i) :: st) "java/lang/ClassCastException" t) : X Θ ce sl n Ty I L F pc lv (.ref (xb G + i) :: st) := by
  obtain ⟨⟨p, l9, e, R, s, m, args, below, meth, c, Qx⟩, G9, own9, nL9, mc9, ms9, post9⟩ := Θ
  obtain ⟨⟨rfl, rfl, rfl, rfl, rfl, rfl, rfl⟩, hx, hbt, hml, hown, hts, hKK, hK, hr, hlk, rfl, hnm, hsz, hmq⟩ := h
  intro H locs ls hw hS hl T0 hT0 Xs
  obtain ⟨cell, hc1, hc2, hc3⟩ := va_recv hK (hw.at hi (xcell_o ht)) hcl (q0 := 0) rfl
  obtain ⟨c1, t1, f1, f2, f3⟩ := hKK.nc (xp_1 hp)
  obtain ⟨p1, p2, p3, p4, p5⟩ := xp_2 hp
  have hc3' : s.vm.findClass C = some cell.cls := hc3
  cases hc3'.symm.trans f1
  have hpl : e.platform.magicAccessors = ({} : Platform).magicAccessors := by rw [Xs.admits.platform]
  obtain ⟨c', hc', hcl'⟩ := Cond.classLink_spec hown (hts _ q) e.platform hpl
  cases f2.symm.trans hc'
  obtain ⟨ks, hks, bks⟩ := xbc_of f1 p3
  obtain ⟨kt, hkt, bkt⟩ := xbc_of f2 p4
  obtain ⟨dk, _, _, kt0, hd, _, _, _, _, hkt0, _, hopen⟩ := hcl'.here
  have hcl₀ := Xs.warmed.classLinks hcl'
  have hW' : s.WarmedH (T0.vm.noted m.cls idx (.cls t1)) := Xs.warmed.noted hd hopen (State.rightAt_cls hcl')
  obtain ⟨ks', hks', eks⟩ := hW'.alike.2.2 _ _ hks
  obtain ⟨kt', hkt', ekt⟩ := hW'.alike.2.2 _ _ hkt
  obtain ⟨b, eb⟩ := xct_of (bks.alike eks) (bkt.alike ekt) p1 p2 (hKK.mods hW')
  obtain ⟨tt, a1, b1⟩ := kk _ (p5 b).1 (p5 b).2 H locs ls hw hS hl (T0.setVm (T0.vm.noted m.cls idx (.cls t1))) hT0 (Xs.noted hW')
  refine ⟨tt, ?_, b1⟩
  have hg : (F0 m pc ls (.ref (xb G + i) :: st)).method = m := rfl
  have hdg : decode c.code (F0 m pc ls (.ref (xb G + i) :: st)).pc = .ok (.checkcast idx, 3) := by rw [hbt]; exact d
  generalize hgg : F0 m pc ls (.ref (xb G + i) :: st) = g at hg hdg a1 ⊢
  have hst : g.stack = .ref (xb G + i) :: st := by rw [← hgg]
  subst hg
  have hobj : ∀ z, cell.vm ≠ .statics z := fun z hz => by rw [hz] at hc2; cases hc2
  jvm_step Xs.here [hx, hdg, checkcast.wp_cold (e := e) (s := T0) (f := g) Xs.here.top hst (resolveClass_links e.toSetting hcl₀) hcl₀.ready,
    checkcast.wp_ready (e := e) (s := T0.setVm (T0.vm.noted g.method.cls idx (.cls t1))) (f := g) Xs.here.top hcl₀.ready hst]
  refine ⟨cell, by rw [← hT0] at hc1; exact hc1, hobj, ks', hks', kt', hkt', ?_⟩
  rw [if_neg (by rw [hW'.alike.assignable, f3]; decide)]
  rw [show checkcast.message (T0.vm.noted g.method.cls idx (.cls t1)) ks' kt' = xct b C E from eb]
  exact a1
end XR
