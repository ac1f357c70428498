/-! CALLS that land in a default method -/
section XD
variable {p : Program} {l : Launch} {e : Env} {R : Room} {s : State} {m : MethodId} {args : Array Value} {below : List Frame} {meth : Method} {c : Code} {H : Heap} {locs : List Loc} {cells slots : Nat}
theorem xd_callVU {T : State} {locs : List Loc} {cells slots : Nat} (X : Stand p l e R s m args below meth c T locs cells slots) (hexec : p.tables.exec = Jvm.exec) {own C owner : String} {index : Nat} {x y : MethodName}
    (hown : s.vm.findClass own = some m.cls) (hlink : (Cond.methodLink own index x).before args s = true) (hsame : (Cond.sameMethod x.cls owner x.name x.desc).before args s = true)
    (hd0 : va_Decl s ⟨owner, x.name, x.desc⟩) (howner : owner ≠ "java/lang/invoke/MethodHandle" ∧ owner ≠ "java/lang/invoke/VarHandle")
    (hsel : (Cond.landsInDefault C x y).before args s = true) (hinst : (Cond.instanceMethod y).before args s = true)
    {W : Nat} {Pre : Pt → Array Value → Prop} {Post : Pt → Array Value → Option Value → Pt → Prop} (hK : Back l R p e below s args y 3 W Pre Post)
    {b : Addr} {cellB : Cell} (hcell : T.heap[b]? = some cellB) (hobj : cellB.vm.isStatics = false) (hcls : s.vm.findClass C = some cellB.cls)
    {g : JFrame} (hg : g.method = m) (hsize : g.locals.size = c.maxLocals) {argsL rest : List Value} (hlen : ∀ sig, parseMethodDescriptor x.desc = some sig → argsL.length = sig.parameters.length)
    (hstack : g.stack = argsL.reverse ++ .ref b :: rest) (hW : 2 * g.monitorRoom + (rest.map fun v => v.category).sum ≤ W) (hdg : decode c.code g.pc = .ok (.invokevirtual index, 3))
    (hpre : ∀ vm₁, s.WarmedH vm₁ → Pre ⟨T.setVm vm₁, locs, cells, slots⟩ (Value.ref b :: argsL).toArray) :
    ∃ (v : Option Value) (vm₁ : Vm) (B : Pt), s.WarmedH vm₁ ∧ Stand p l e R s m args below meth c B.U B.locs B.cells B.slots ∧ Post ⟨T.setVm vm₁, locs, cells, slots⟩ (Value.ref b :: argsL).toArray v B ∧
      ∀ target, Steps p.tables e below (B.U.setTop { g with pc := g.pc + 3, stack := v.toList ++ rest }) target → Steps p.tables e below (T.setTop g) target := by
  obtain ⟨r0, r, hn, hrm, hstR, hsigR⟩ := hd0
  obtain ⟨cn, ck, r1, hcn, hck, hni, hf, hn1⟩ := Cond.sameMethod_found hsame
  cases hn.symm.trans hn1
  obtain ⟨mk, methM, hnamed, hmethM, -, habM⟩ := Cond.instanceMethod_spec hinst
  obtain ⟨c2, r2, m2, rm, q1, q2, q3, q5, q4, ⟨kP, hkP, hkPi⟩, -, q7⟩ := Cond.landsInDefault_spec hsel
  cases hcls.symm.trans q1
  cases hf.symm.trans q2
  cases hnamed.symm.trans q3
  cases hrm.symm.trans q5
  have hselP : selectMethod e.platform s.vm cellB.cls r0 = .method mk := by rw [Launch.admits_selectMethod X.admits]; exact q4
  obtain ⟨vm₁, X₁, hstep₁⟩ := X.invokevirtualUpD hexec hown hlink hsame howner hn hrm hstR (a := b) (cell := cellB) hcell
    (fun z h => by rw [h] at hobj; cases hobj) hselP hmethM habM hkP hkPi q7 (g := g) hg (argsL := argsL) (rest := rest) (hlen _ hsigR) hstack hdg
  obtain ⟨v, B, X', hpost, hsteps⟩ := hK m meth c ⟨T.setVm vm₁, locs, cells, slots⟩ { g with stack := rest } (.invokevirtual index) mk (Value.ref b :: argsL).toArray X₁ hg hsize hdg hW (X₁.named hnamed) (hpre vm₁ X₁.warmed)
  exact ⟨v, vm₁, B, X₁.warmed, X', hpost, fun target h => hstep₁ _ fun acts => by rw [doInvoke_state]; exact hsteps.trans h⟩
end XD
def xcd (cls : String) (idx ci : Nat) (owner : String) (x y : MethodName) (cy : ByteArray) (nLy : Nat) (rty : Option FieldType) (na : Nat) : Prop := ∃ (C : String) (T : u_T) (N : Nat), xcl[ci]? = some (C, T, N) ∧ Cond.methodLink cls idx x ∈ cjs narrow_1 ∧ Cond.sameMethod x.cls owner x.name x.desc ∈ cjs narrow_1 ∧ Cond.landsInDefault C x y ∈ cjs narrow_1 ∧ Cond.declares ⟨owner, x.name, x.desc⟩ ∈ lw_tbl ∧ Cond.instanceMethod y ∈ lw_all ∧ GoodIn lw_all (ws_ y cy nLy rty) ∧ Cond.initialized y.cls ∈ lw_all ∧ (owner ≠ "java/lang/invoke/MethodHandle" ∧ owner ≠ "java/lang/invoke/VarHandle") ∧ (parseMethodDescriptor x.desc).map (fun d => d.parameters.length) = some na
section XR
variable {Θ : xT_T} {l : Launch} {cls : String} {cc : ByteArray} {nL k mc ms : Nat} {ret : Option FieldType} {nm : String} {G : xG_T} {own : Nat → Prop} {post : xP_T} {ce sl n : Nat} {Ty : Nat → xs_T} {I : xI_T} {L : xL_T} {F : xF_T} {pc : Nat} {lv : List (Option Value)} {st : List Value}
set_option maxHeartbeats 1000000 in
theorem x_callUD (h : XOk Θ l cls cc nL k mc ms ret nm G own post) {i ci : Nat} {owner : String} {x : MethodName} {y : MethodName} {cy : ByteArray} {nLy k' mc' ms' na idx : Nat} {rty : Option FieldType} {As rest : List Value} {post' : xP_T} (hM : Cg l k' mc' ms' y cy nLy rty G own (.ref (xb G + i) :: As) n Ty I L F post') (g : xcd cls idx ci owner x y cy nLy rty na) (hi : i < n) (ht : Ty i = some (.inl ci)) (d : decode cc pc = .ok (.invokevirtual idx, 3)) (hk : k' < k ∧ nLy ≤ 45) (hce : ce + mc' ≤ mc ∧ sl + ms' ≤ ms) (hna : As.length = na) (hrest : (rest.map fun v => v.category).sum ≤ 8)
    (kk : ∀ (v : Option Value) (n' : Nat) (Ty' : Nat → xs_T) (I' : xI_T) (L' : xL_T) (F' : xF_T), post' v n' Ty' I' L' F' → X Θ (ce + mc') (sl + ms') n' Ty' I' L' F' (pc + 3) lv (v.toList ++ rest)) : X Θ ce sl n Ty I L F pc lv (As.reverse ++ .ref (xb G + i) :: rest) := by
  obtain ⟨⟨p, l9, e, R, s, m, args, below, meth, c, Qx⟩, G9, own9, nL9, mc9, ms9, post9⟩ := Θ
  obtain ⟨⟨rfl, rfl, rfl, rfl, rfl, rfl, rfl⟩, hx, hb, hml, hown, hts, hKK, hK, hr, hlk, rfl, hnm, hsz, hmq⟩ := h
  intro H locs ls hw hS hl
  obtain ⟨C, T, N, hc, w1, w2, w3, w4, w5, hG, w6, ho, hd⟩ := g
  have hcode : Cond.code y cy nLy rty ∈ ws_ y cy nLy rty := List.mem_cons_self
  obtain ⟨-, ⟨cellB, hcB, hoB, hclB⟩, hPc⟩ : PreV s H C (xb G + i) (va_Pc (.ref (xb G + i) :: As) (fun U => Wd G own n Ty I L F U.heap ∧ xKK G U)) As := ⟨xblind, va_recv hK (hw.at hi (xcell_o ht)) hc (q0 := 0) rfl, fun U hU hW => ⟨rfl, by rw [hU]; exact hw, hKK.warm hW⟩⟩
  have hBk : Back l (xrm k mc ms) p e below s args y 3 8 (PreOf (xrm k mc ms) mc' ms' (va_Pc (.ref (xb G + i) :: As) (fun U => Wd G own n Ty I L F U.heap ∧ xKK G U))) (PostOf (xQ G own post') mc' ms' (xA G own)) := back_of (bytes := cy) (maxL := nLy) (ret := rty) hM xblind rfl rfl hk.1 (by show 8 + (nLy + 11) + 64 * k' ≤ 64 * k; omega) (pay_in hts hG) hcode (fun a' U hW => word_at hW (Or.inl (by first | rfl | simp [Cond.onTables, Cond.keeps, Cond.steady])) (hts _ w6))
  have hr0 : va_Run p l e (xrm k mc ms) s m args below meth c H locs ce sl mc' ms' (F0 m pc ls (As.reverse ++ .ref (xb G + i) :: rest)) rest (xQ G own post' (.ref (xb G + i) :: As : List Value).toArray) (xA G own) := by
    intro T hT X
    obtain ⟨v, vm₁, ⟨U', l2, c2, s2⟩, hW₁, X', ⟨g', mk, t, L, e1, e2, hq, h1, hL, h2, h3⟩, st⟩ := xd_callVU X hx (C := C) (owner := owner) hown (hKK.dw w1 rfl rfl) (hKK.dw w2 rfl rfl) (va_Decl.abs (hKK.nwD w4)) ho (hKK.dl w3) (hts _ w5) hBk (by rw [hT]; exact hcB) hoB hclB (g := F0 m pc ls (As.reverse ++ .ref (xb G + i) :: rest)) rfl (hl.1.trans hml.symm) (argsL := As) (rest := rest) (fun sig h => by rw [h] at hd; exact hna.trans (Option.some.inj hd).symm) rfl (lv_room hrest) (by rw [hb]; exact d)
      (fun vm₁ hW₁ => ⟨hce.1, hce.2, hPc (T.setVm vm₁) hT hW₁⟩)
    dsimp only [Pt.U, Pt.locs, Pt.cells, Pt.slots] at X' e1 e2 h1 h2 h3 st
    subst h1; subst h2; subst h3
    exact ⟨v, (T.setVm vm₁).calling g' mk (Value.ref (xb G + i) :: As).toArray, t, U', L, hT, X', hL, e1, e2, hq, st⟩
  intro T hT Xs
  obtain ⟨v, st₀, t, T', L0, h0, X', hL, e1, e2, ⟨⟨v', n', Ty', I', L', F', hv, hp, hw'⟩, hz, hkp⟩, hst⟩ := hr0 T hT Xs
  cases hv
  rw [h0] at hz hkp
  obtain ⟨t2, a1, b1⟩ := kk v n' Ty' I' L' F' hp T'.heap (locs ++ L0) ls (by rw [e1]; exact hw')
    ⟨Nat.le_trans hS.1 (by rw [e1]; exact hz), fun q h1 h2 => by rw [e1, hkp q (Nat.lt_of_lt_of_le h1 hS.1) h2]; exact hS.2.1 q h1 h2, fun q hq => by
      rcases List.mem_append.mp hq with hq | hq
      · exact hS.2.2 q hq
      · exact hL q hq⟩ hl T' rfl X'
  exact ⟨t2, hst t2 a1, b1⟩
end XR
