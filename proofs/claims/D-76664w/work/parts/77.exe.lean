/-! EXCEPTIONS: a call through null; caught in the same method; methods with handlers -/
/-- a method that is there by its name: of its own class, or declared only -/
def xdcl (x : MethodName) : Prop := ((∃ (b : ByteArray) (ml : Nat) (rt : Option FieldType) (C : String), Cond.instanceMethod x ∈ lw_all ∧ Cond.code x b ml rt ∈ lw_all ∧ Cond.selects C x x ∈ lw_all) ∨ (Cond.declares x ∈ lw_tbl ∧ Cond.sameMethod x.cls x.cls x.name x.desc ∈ lw_all)) ∧ x.cls ≠ "java/lang/invoke/MethodHandle" ∧ x.cls ≠ "java/lang/invoke/VarHandle"
def XTab (Θ : xT_T) (hh : List (Nat × Nat × Nat × Nat)) : Prop := match Θ with
  | ((p, l, e, R, s, m, args, below, meth, c, Qx), G, own, nL, mc, ms, post) => c.exceptionTable.toList = tableOf hh
/-- a row of a table takes what is thrown at pc, of class E: by its number, from a list of those ahead -/
def xpass (cls E : String) (pc : Nat) (z : ExceptionTableEntry) : Prop := covers z pc = false ∨ (z.catchType ≠ 0 ∧ ∃ nm : String, Cond.classLink cls z.catchType nm ∈ lw_all ∧ Cond.not (.castable E nm) ∈ cjs narrow_1)
section XR
variable {Θ : xT_T} {l : Launch} {cls : String} {cc : ByteArray} {nL k mc ms : Nat} {ret : Option FieldType} {nm : String} {G : xG_T} {own : Nat → Prop} {post : xP_T} {ce sl n : Nat} {Ty : Nat → xs_T} {I : xI_T} {L : xL_T} {F : xF_T} {pc : Nat} {lv : List (Option Value)} {st : List Value}
theorem x_invN (h : XOk Θ l cls cc nL k mc ms ret nm G own post) {idx : Nat} {x : MethodName} (ql : Cond.methodLink cls idx x ∈ lw_all) (qd : xdcl x) {As rest : List Value} (hlen : (parseMethodDescriptor x.desc).map (fun d => d.parameters.length) = some As.length) (d : decode cc pc = .ok (.invokevirtual idx, 3))
    (kk : XNoteN Θ ce sl n Ty I L F pc lv rest) : X Θ ce sl n Ty I L F pc lv (As.reverse ++ .null :: rest) := by
  obtain ⟨⟨p, l9, e, R, s, m, args, below, meth, c, Qx⟩, G9, own9, nL9, mc9, ms9, post9⟩ := Θ
  obtain ⟨⟨rfl, rfl, rfl, rfl, rfl, rfl, rfl⟩, hx, hbt, hml, hown, hts, hKK, hK, hr, hlk, rfl, hnm, hsz, hmq⟩ := h
  intro H locs ls hw hS hl T hT Xs
  obtain ⟨qd, hh⟩ := qd
  obtain ⟨r0, r, hn, hrm, hst, hsig, kP, hkP, hkPi⟩ : ∃ (r0 : MethodId) (r : Method), s.methodNamed? x = some r0 ∧ s.vm.method? r0 = some r ∧ r.isStatic = false ∧ parseMethodDescriptor x.desc = some r.sig ∧ ∃ kP : Class, s.vm.classes[r0.cls]? = some kP ∧ kP.isInterface = false := by
    rcases qd with ⟨b, ml, rt, C, q1, q2, q3⟩ | ⟨q1, q2⟩
    · obtain ⟨r0, r, hn, hrm, hst, hsig⟩ := va_Decl.of (hts _ q1) (hts _ q2)
      obtain ⟨c2, r2, m2, e1, e2, e3, e4, kP, hkP, hkPi⟩ := Cond.selects_spec (hts _ q3)
      cases hn.symm.trans e3
      exact ⟨r0, r, hn, hrm, hst, hsig, kP, hkP, hkPi⟩
    · obtain ⟨r0, r, hn, hrm, hst, hsig⟩ := va_Decl.abs (hKK.nwD q1)
      obtain ⟨c2, ck, r2, e1, e2, e3, e4, e5⟩ := Cond.sameMethod_found (hts _ q2)
      have hf : s.vm.findClass x.cls = some r0.cls := findClass_of_methodNamed hn
      cases hf.symm.trans e1
      exact ⟨r0, r, hn, hrm, hst, hsig, ck, e2, e3⟩
  have hl9 : As.length = r.sig.parameters.length := by
    rw [hsig] at hlen
    exact (Option.some.inj hlen).symm
  obtain ⟨vm', X1, st1⟩ := Xs.invokevirtualNull hx hown (hts _ ql) hn hrm hst hkP hkPi hh (g := F0 m pc ls (As.reverse ++ .null :: rest)) rfl (argsL := As) (rest := rest) hl9 rfl (by rw [hbt]; exact d)
  obtain ⟨t, st, q⟩ := kk H locs ls hw hS hl (T.setVm vm') hT X1
  exact ⟨t, st1 t st, q⟩
theorem XN.catch (h : XOk Θ l cls cc nL k mc ms ret nm G own post) {hh : List (Nat × Nat × Nat × Nat)} (hT : XTab Θ hh) {E name : String} {pre suf : List ExceptionTableEntry} {x : ExceptionTableEntry} (hsp : tableOf hh = pre ++ x :: suf) (hps : ∀ z ∈ pre, xpass cls E pc z) (hcv : covers x pc = true) (h0 : x.catchType ≠ 0) (ql : Cond.classLink cls x.catchType name ∈ lw_all) (qc : Cond.castable E name ∈ lw_tbl)
    (kk : ∀ a : Nat, X Θ ce sl n Ty I L F x.handlerPc lv [.ref a]) : XN Θ ce sl n Ty I L F pc lv st E := by
  obtain ⟨⟨p, l9, e, R, s, m, args, below, meth, c, Qx⟩, G9, own9, nL9, mc9, ms9, post9⟩ := Θ
  obtain ⟨⟨rfl, rfl, rfl, rfl, rfl, rfl, rfl⟩, hx, hbt, hml, hown, hts, hKK, hK, hr, hlk, rfl, hnm, hsz, hmq⟩ := h
  intro H locs ls hw hS hl q cell hc hv hcl
  have hT' : c.exceptionTable.toList = tableOf hh := hT
  refine vx_catch (own := cls) (name := name) (E := E) hown pre x suf (hT'.trans hsp) (fun z hz => ?_) hcv h0 (hts _ ql) (va_Nw.use rfl (hKK.nwC qc)) hc hv hcl (kk q H locs ls hw hS hl)
  rcases hps z hz with g | ⟨g1, nm2, g2, g3⟩
  · exact Or.inl g
  · exact Or.inr ⟨g1, nm2, hts _ g2, hKK.nc g3⟩
end XR
/-- a contract of a method with handlers -/
def CgW (l : Launch) (k mc ms : Nat) (y : MethodName) (cc : ByteArray) (nL : Nat) (ret : Option FieldType) (hh : List (Nat × Nat × Nat × Nat)) (G : xG_T) (own : Nat → Prop) (av : List Value) (n : Nat) (Ty : Nat → xs_T) (I : xI_T) (L : xL_T) (F : xF_T) (post : xP_T) : Prop :=
  Met l y (wsW_ y cc nL ret hh) (xrm k mc ms) (va_Pc av (fun U => Wd G own n Ty I L F U.heap ∧ xKK G U)) (xQ G own post) mc ms (xA G own)
set_option maxHeartbeats 1000000 in
theorem CgW.intro {l : Launch} {k mc ms : Nat} {y : MethodName} {cc : ByteArray} {nL : Nat} {ret : Option FieldType} {hh : List (Nat × Nat × Nat × Nat)} {G : xG_T} {own : Nat → Prop} {av : List Value} {n : Nat} {Ty : Nat → xs_T} {I : xI_T} {L : xL_T} {F : xF_T} {post : xP_T} {lv : List (Option Value)} {cls : String} {pad : Nat} (hcls : y.cls = cls) (hy : plainName cls = true) (hlen : (lg_sl av).length ≤ nL) (hlv : xlv av ++ List.replicate pad none = lv)
    (body : ∀ Θ : xT_T, XOk Θ l cls cc nL k mc ms ret y.name G own post → XTab Θ hh → X Θ 0 0 n Ty I L F 0 lv []) : CgW l k mc ms y cc nL ret hh G own av n Ty I L F post := by
  subst hcls
  refine va_MetW (cc := cc) (maxL := nL) (ret := ret) (hh := hh) hy rfl ?_
  intro p e s m args below meth c s₁ B hml hv
  obtain ⟨rfl, hw, hK⟩ := hv
  have hts0 := atoms_spec (ws := wsW_ y cc nL ret hh) B.pre
  have hts : ∀ w ∈ lw_all, w.before av.toArray s = true := fun w h => hts0 w (List.mem_cons_of_mem _ h)
  have htab : c.exceptionTable.toList = tableOf hh := vx_table (x := y) B (hts0 _ List.mem_cons_self)
  have hown : s.vm.findClass y.cls = some m.cls := findClass_of_methodNamed B.named
  have hl := lv_entry av (n := nL) hlen
  rw [lg_entry_eq]
  generalize (lg_sl av ++ List.replicate (nL - (lg_sl av).length) Slot.unset).toArray = ls at hl ⊢
  have hx : xloc ls nL lv := ⟨hl.1, hl.2.1, fun i v h => hl.2.2 (i, v) (by
    subst hlv
    have h2 : (xlv av)[i]? = some (some v) := by
      by_cases hi : i < (xlv av).length
      · rw [List.getElem?_append_left hi] at h
        exact h
      · rw [List.getElem?_append_right (Nat.not_lt.mp hi), List.getElem?_replicate] at h
        split at h <;> cases h
    have h1 := xlv_args av 0 i v h2
    rwa [Nat.zero_add] at h1)⟩
  exact body ((p, l, e, _, s, m, av.toArray, below, meth, c, MQ below (xQ G own post) av.toArray s mc ms (xA G own)), G, own, nL, mc, ms, post) ⟨⟨rfl, rfl, rfl, rfl, rfl, rfl, rfl⟩, B.exec, B.bytes, hml, hown, hts, hK, hK.K, B.returns, B.notSynchronized, rfl, (name_of_methodNamed B.named B.method).1, by rw [hw.1]; exact Nat.le_add_right _ _, fun _ h => h⟩ htab s.heap [] ls hw va_S.rf hx
/-- what a call of a method with handlers says by its own words -/
def xcvW (cls : String) (idx ci : Nat) (y : MethodName) (cy : ByteArray) (nLy : Nat) (rty : Option FieldType) (hh : List (Nat × Nat × Nat × Nat)) (na : Nat) : Prop := ∃ (C : String) (T : u_T) (N : Nat), xcl[ci]? = some (C, T, N) ∧ GoodIn lw_all (wsV cls idx C y (wsW_ y cy nLy rty hh)) ∧ y.cls = C ∧ y.cls ≠ "java/lang/invoke/MethodHandle" ∧ y.cls ≠ "java/lang/invoke/VarHandle" ∧ (parseMethodDescriptor y.desc).map (fun d => d.parameters.length) = some na
section XR
variable {Θ : xT_T} {l : Launch} {cls : String} {cc : ByteArray} {nL k mc ms : Nat} {ret : Option FieldType} {nm : String} {G : xG_T} {own : Nat → Prop} {post : xP_T} {ce sl n : Nat} {Ty : Nat → xs_T} {I : xI_T} {L : xL_T} {F : xF_T} {pc : Nat} {lv : List (Option Value)} {st : List Value}
theorem x_callVW (h : XOk Θ l cls cc nL k mc ms ret nm G own post) {i ci : Nat} {y : MethodName} {cy : ByteArray} {nLy k' mc' ms' na idx : Nat} {rty : Option FieldType} {hh : List (Nat × Nat × Nat × Nat)} {As rest : List Value} {post' : xP_T} (hM : CgW l k' mc' ms' y cy nLy rty hh G own (.ref (xb G + i) :: As) n Ty I L F post') (g : xcvW cls idx ci y cy nLy rty hh na) (hi : i < n) (ht : Ty i = some (.inl ci)) (d : decode cc pc = .ok (.invokevirtual idx, 3)) (hk : k' < k ∧ nLy ≤ 45) (hce : ce + mc' ≤ mc ∧ sl + ms' ≤ ms) (hna : As.length = na) (hrest : (rest.map fun v => v.category).sum ≤ 8)
    (kk : ∀ (v : Option Value) (n' : Nat) (Ty' : Nat → xs_T) (I' : xI_T) (L' : xL_T) (F' : xF_T), post' v n' Ty' I' L' F' → X Θ (ce + mc') (sl + ms') n' Ty' I' L' F' (pc + 3) lv (v.toList ++ rest)) : X Θ ce sl n Ty I L F pc lv (As.reverse ++ .ref (xb G + i) :: rest) := by
  obtain ⟨⟨p, l9, e, R, s, m, args, below, meth, c, Qx⟩, G9, own9, nL9, mc9, ms9, post9⟩ := Θ
  obtain ⟨⟨rfl, rfl, rfl, rfl, rfl, rfl, rfl⟩, hx, hb, hml, hown, hts, hKK, hK, hr, hlk, rfl, hnm, hsz, hmq⟩ := h
  intro H locs ls hw hS hl
  obtain ⟨C, T, N, hc, hg, hd⟩ := g
  have hr0 : va_Run p l e (xrm k mc ms) s m args below meth c H locs ce sl mc' ms' (F0 m pc ls (As.reverse ++ .ref (xb G + i) :: rest)) rest (xQ G own post' (.ref (xb G + i) :: As : List Value).toArray) (xA G own) := vx_runVW (rest := rest) ⟨hx, hb, hml, hown, hts⟩ hM (vx_cwVW (R := xrm k mc ms) na hts hg rfl rfl rfl hd ⟨hk.1, by show 8 + (nLy + 11) + 64 * k' ≤ 64 * k; omega⟩) ⟨xblind, va_recv hK (hw.at hi (xcell_o ht)) hc (q0 := 0) rfl, fun U hU hW => ⟨rfl, by rw [hU]; exact hw, hKK.warm hW⟩⟩ rfl hna hl.1 (rfl : (F0 m pc ls (As.reverse ++ .ref (xb G + i) :: rest)).stack = _) (lv_room hrest) d hce
  intro T hT Xs
  obtain ⟨v, st₀, t, T', L0, h0, X', hL, e1, e2, ⟨⟨v', n', Ty', I', L', F', hv, hp, hw'⟩, hz, hkp⟩, hst⟩ := hr0 T hT Xs
  cases hv
  rw [h0] at hz hkp
  obtain ⟨t2, a1, b1⟩ := kk v n' Ty' I' L' F' hp T'.heap (locs ++ L0) ls (by rw [e1]; exact hw')
    ⟨Nat.le_trans hS.1 (by rw [e1]; exact hz), fun q h1 h2 => by rw [e1, hkp q (Nat.lt_of_lt_of_le h1 hS.1) h2]; exact hS.2.1 q h1 h2, fun q hq => by
      rcases List.mem_append.mp hq with hq | hq
      · exact hS.2.2 q hq
      · exact hL q hq⟩ hl T' rfl X'
  exact ⟨t2, hst t2 a1, b1⟩
end XR
