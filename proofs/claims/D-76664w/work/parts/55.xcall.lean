/-! CALLS of methods found by the receiver, of super, of nest mates -/
def xcu (cls : String) (idx ci : Nat) (owner : String) (x y : MethodName) (cy : ByteArray) (nLy : Nat) (rty : Option FieldType) (na : Nat) : Prop := ∃ (C : String) (T : u_T) (N : Nat), xcl[ci]? = some (C, T, N) ∧ GoodIn lw_all (va_wsU cls idx C owner x y (ws_ y cy nLy rty)) ∧ owner ≠ "java/lang/invoke/MethodHandle" ∧ owner ≠ "java/lang/invoke/VarHandle" ∧ (parseMethodDescriptor x.desc).map (fun d => d.parameters.length) = some na ∧ (y = ⟨owner, x.name, x.desc⟩ ∨ (Cond.instanceMethod ⟨owner, x.name, x.desc⟩ ∈ lw_all ∧ ∃ (b0 : ByteArray) (m0 : Nat) (r0 : Option FieldType), Cond.code ⟨owner, x.name, x.desc⟩ b0 m0 r0 ∈ lw_all) ∨ Cond.declares ⟨owner, x.name, x.desc⟩ ∈ lw_tbl)
def xcp (cls : String) (idx : Nat) (y : MethodName) (cy : ByteArray) (nLy : Nat) (rty : Option FieldType) (na : Nat) : Prop := GoodIn lw_all (va_wsSU cls idx y (ws_ y cy nLy rty)) ∧ y.name ≠ "<init>" ∧ (parseMethodDescriptor y.desc).map (fun d => d.parameters.length) = some na
def xci (cls : String) (idx : Nat) (y : MethodName) (cy : ByteArray) (nLy : Nat) (na : Nat) : Prop := GoodIn lw_all (ws_ y cy nLy none) ∧ Cond.initialized y.cls ∈ lw_all ∧ Cond.methodLink cls idx y ∈ lw_all ∧ Cond.instanceMethod y ∈ lw_all ∧ y.name = "<init>" ∧ y.cls ≠ "java/lang/invoke/MethodHandle" ∧ y.cls ≠ "java/lang/invoke/VarHandle" ∧ (parseMethodDescriptor y.desc).map (fun d => d.parameters.length) = some na
def xcin (cls : String) (idx : Nat) (y : MethodName) (cy : ByteArray) (nLy : Nat) (na : Nat) : Prop := ∃ host : String, GoodIn lw_all (ws_ y cy nLy none) ∧ Cond.initialized y.cls ∈ lw_all ∧ Cond.methodLinkNest cls idx y host ∈ lw_tbl ∧ Cond.instanceMethod y ∈ lw_all ∧ y.name = "<init>" ∧ y.cls ≠ "java/lang/invoke/MethodHandle" ∧ y.cls ≠ "java/lang/invoke/VarHandle" ∧ (parseMethodDescriptor y.desc).map (fun d => d.parameters.length) = some na
def xcsn (cls : String) (idx : Nat) (y : MethodName) (cy : ByteArray) (nLy : Nat) (rty : Option FieldType) (na : Nat) : Prop := ∃ host : String, GoodIn lw_all (ws_ y cy nLy rty) ∧ Cond.initialized y.cls ∈ lw_all ∧ Cond.methodLinkNest cls idx y host ∈ lw_tbl ∧ Cond.static y ∈ lw_all ∧ y.cls ≠ "java/lang/invoke/MethodHandle" ∧ y.cls ≠ "java/lang/invoke/VarHandle" ∧ (parseMethodDescriptor y.desc).map (fun d => d.parameters.length) = some na
def xcf (cls : String) (idx ci : Nat) (x y : MethodName) (cy : ByteArray) (nLy : Nat) (rty : Option FieldType) (na : Nat) : Prop := ∃ (C : String) (T : u_T) (N : Nat), xcl[ci]? = some (C, T, N) ∧ GoodIn lw_all (va_wsF cls idx C x y (ws_ y cy nLy rty)) ∧ Cond.declares x ∈ lw_tbl ∧ Cond.interfaceMethod x.cls x.cls x.name x.desc ∈ lw_tbl ∧ Cond.publicMethod y ∈ lw_tbl ∧ Cond.unhidden C x.name x.desc ∈ lw_tbl ∧ Cond.castable C x.cls ∈ lw_tbl ∧ x.cls ≠ "java/lang/invoke/MethodHandle" ∧ x.cls ≠ "java/lang/invoke/VarHandle" ∧ (parseMethodDescriptor x.desc).map (fun d => d.parameters.length) = some na
section XV
variable {Θ : xT_T} {l : Launch} {cls : String} {cc : ByteArray} {nL k mc ms : Nat} {ret : Option FieldType} {nm : String} {G : xG_T} {own : Nat → Prop} {post : xP_T} {ce sl n : Nat} {Ty : Nat → xs_T} {I : xI_T} {L : xL_T} {F : xF_T} {pc : Nat} {lv : List (Option Value)} {st : List Value}
set_option maxHeartbeats 1000000 in
theorem x_callU (h : XOk Θ l cls cc nL k mc ms ret nm G own post) {i ci : Nat} {owner : String} {x : MethodName} {y : MethodName} {cy : ByteArray} {nLy k' mc' ms' na idx : Nat} {rty : Option FieldType} {As rest : List Value} {post' : xP_T} (hM : Cg l k' mc' ms' y cy nLy rty G own (.ref (xb G + i) :: As) n Ty I L F post') (g : xcu cls idx ci owner x y cy nLy rty na) (hi : i < n) (ht : Ty i = some (.inl ci)) (d : decode cc pc = .ok (.invokevirtual idx, 3)) (hk : k' < k ∧ nLy ≤ 45) (hce : ce + mc' ≤ mc ∧ sl + ms' ≤ ms) (hna : As.length = na) (hrest : (rest.map fun v => v.category).sum ≤ 8)
    (kk : ∀ (v : Option Value) (n' : Nat) (Ty' : Nat → xs_T) (I' : xI_T) (L' : xL_T) (F' : xF_T), post' v n' Ty' I' L' F' → X Θ (ce + mc') (sl + ms') n' Ty' I' L' F' (pc + 3) lv (v.toList ++ rest)) : X Θ ce sl n Ty I L F pc lv (As.reverse ++ .ref (xb G + i) :: rest) := by
  obtain ⟨⟨p, l9, e, R, s, m, args, below, meth, c, Qx⟩, G9, own9, nL9, mc9, ms9, post9⟩ := Θ
  obtain ⟨⟨rfl, rfl, rfl, rfl, rfl, rfl, rfl⟩, hx, hb, hml, hown, hts, hKK, hK, hr, hlk, rfl, hnm, hsz, hmq⟩ := h
  intro H locs ls hw hS hl
  obtain ⟨C, T, N, hc, hg, ho1, ho2, hd, hdec⟩ := g
  have ok : ∀ w ∈ va_wsU cls idx C owner x y (ws_ y cy nLy rty), w.before args s = true := fun w h => hts w (hg w h).1
  have hG : GoodIn lw_all (ws_ y cy nLy rty) := fun w h => hg w (by unfold va_wsU; exact List.mem_append_right _ h)
  have hcode : Cond.code y cy nLy rty ∈ ws_ y cy nLy rty := List.mem_cons_self
  have hDec : va_Decl s ⟨owner, x.name, x.desc⟩ := by
    rcases hdec with e | ⟨q1, b0, m0, r0, q2⟩ | q
    · rw [← e]
      exact va_Decl.of (ok _ (by simp [va_wsU])) (hts _ (hG _ hcode).1)
    · exact va_Decl.of (hts _ q1) (hts _ q2)
    · exact va_Decl.abs (hKK.nwD q)
  have cw : va_CU (xrm k mc ms) s args cls C owner idx x y cy nLy rty (ws_ y cy nLy rty) (xrm k' mc' ms') mc' ms' na := ⟨⟨rfl, rfl, hk.1, by show 8 + (nLy + 11) + 64 * k' ≤ 64 * k; omega, pay_in hts hG, hcode⟩, hts _ (hG _ hcode).1, ok _ (by simp [va_wsU]), ⟨ho1, ho2⟩, fun sig h => by have h2 := hd; rw [h] at h2; exact (Option.some.inj h2).symm, ok _ (by simp [va_wsU]), ok _ (by simp [va_wsU]), hDec, ok _ (by simp [va_wsU]), ok _ (by simp [va_wsU])⟩
  have hr0 : va_Run p l e (xrm k mc ms) s m args below meth c H locs ce sl mc' ms' (F0 m pc ls (As.reverse ++ .ref (xb G + i) :: rest)) rest (xQ G own post' (.ref (xb G + i) :: As : List Value).toArray) (xA G own) := va_runU (rest := rest) (g := F0 m pc ls (As.reverse ++ .ref (xb G + i) :: rest)) ⟨hx, hb, hml, hown, hts⟩ hM cw ⟨xblind, va_recv hK (hw.at hi (xcell_o ht)) hc (q0 := 0) rfl, fun U hU hW => ⟨rfl, by rw [hU]; exact hw, hKK.warm hW⟩⟩ rfl hna hl.1 rfl (lv_room hrest) d hce
  intro T hT Xs
  obtain ⟨v, st₀, t, T', L0, h0, X', hL, e1, e2, ⟨⟨v', n', Ty', I', L', F', hv, hp, hw'⟩, hz, hkp⟩, hst⟩ := hr0 T hT Xs
  cases hv
  rw [h0] at hz hkp
  obtain ⟨t2, a1, b1⟩ := kk v n' Ty' I' L' F' hp T'.heap (locs ++ L0) ls (by rw [e1]; exact hw')
    ⟨Nat.le_trans hS.1 (by rw [e1]; exact hz), fun q h1 h2 => by rw [e1, hkp q (Nat.lt_of_lt_of_le h1 hS.1) h2]; exact hS.2.1 q h1 h2, fun q hq => by
      rcases List.mem_append.mp hq with hq | hq
      · exact hS.2.2 q hq
      · exact hL q hq⟩ hl T' rfl X'
  exact ⟨t2, hst t2 a1, b1⟩
theorem x_callURi (h : XOk Θ l cls cc nL k mc ms ret nm G own post) {i ci : Nat} {owner : String} {x : MethodName} {y : MethodName} {cy : ByteArray} {nLy k' na idx : Nat} {ψ : Int32 → xI_T → Prop} {rty : Option FieldType} {As rest : List Value} (hM : Cg l k' 0 0 y cy nLy rty G own (.ref (xb G + i) :: As) n Ty I L F (xpR n Ty L F (aR ψ))) (g : xcu cls idx ci owner x y cy nLy rty na) (hi : i < n) (ht : Ty i = some (.inl ci)) (d : decode cc pc = .ok (.invokevirtual idx, 3)) (hk : k' < k ∧ nLy ≤ 45) (hce : ce ≤ mc ∧ sl ≤ ms) (hna : As.length = na) (hrest : (rest.map fun v => v.category).sum ≤ 8)
    (kk : ∀ (r : Int32) (J : xI_T), ψ r J → X Θ ce sl n Ty J L F (pc + 3) lv (.int r :: rest)) : X Θ ce sl n Ty I L F pc lv (As.reverse ++ .ref (xb G + i) :: rest) := by
  refine x_callU h hM g hi ht d hk hce hna hrest ?_
  rintro _ _ _ J _ _ ⟨rfl, rfl, rfl, rfl, r, rfl, hp⟩
  exact kk r J hp
theorem x_callURv (h : XOk Θ l cls cc nL k mc ms ret nm G own post) {i ci : Nat} {owner : String} {x : MethodName} {y : MethodName} {cy : ByteArray} {nLy k' na idx : Nat} {ψ : xI_T → Prop} {rty : Option FieldType} {As rest : List Value} (hM : Cg l k' 0 0 y cy nLy rty G own (.ref (xb G + i) :: As) n Ty I L F (xpR n Ty L F (aV ψ))) (g : xcu cls idx ci owner x y cy nLy rty na) (hi : i < n) (ht : Ty i = some (.inl ci)) (d : decode cc pc = .ok (.invokevirtual idx, 3)) (hk : k' < k ∧ nLy ≤ 45) (hce : ce ≤ mc ∧ sl ≤ ms) (hna : As.length = na) (hrest : (rest.map fun v => v.category).sum ≤ 8)
    (kk : ∀ (J : xI_T), ψ J → X Θ ce sl n Ty J L F (pc + 3) lv rest) : X Θ ce sl n Ty I L F pc lv (As.reverse ++ .ref (xb G + i) :: rest) := by
  refine x_callU h hM g hi ht d hk hce hna hrest ?_
  rintro _ _ _ J _ _ ⟨rfl, rfl, rfl, rfl, rfl, hp⟩
  exact kk J hp
theorem x_callUEi (h : XOk Θ l cls cc nL k mc ms ret nm G own post) {i ci : Nat} {owner : String} {x : MethodName} {y : MethodName} {cy : ByteArray} {nLy k' na idx : Nat} {r : Int32} {n2 : Nat} {Ty2 : Nat → xs_T} {I2 : xI_T} {L2 : xL_T} {F2 : xF_T} {rty : Option FieldType} {As rest : List Value} (hM : Cg l k' 0 0 y cy nLy rty G own (.ref (xb G + i) :: As) n Ty I L F (xpE (some (.int r)) n2 Ty2 I2 L2 F2)) (g : xcu cls idx ci owner x y cy nLy rty na) (hi : i < n) (ht : Ty i = some (.inl ci)) (d : decode cc pc = .ok (.invokevirtual idx, 3)) (hk : k' < k ∧ nLy ≤ 45) (hce : ce ≤ mc ∧ sl ≤ ms) (hna : As.length = na) (hrest : (rest.map fun v => v.category).sum ≤ 8)
    (kk : X Θ ce sl n2 Ty2 I2 L2 F2 (pc + 3) lv (.int r :: rest)) : X Θ ce sl n Ty I L F pc lv (As.reverse ++ .ref (xb G + i) :: rest) := by
  refine x_callU h hM g hi ht d hk hce hna hrest ?_
  rintro _ _ _ _ _ _ ⟨rfl, rfl, rfl, rfl, rfl, rfl⟩
  exact kk
theorem x_callUEl (h : XOk Θ l cls cc nL k mc ms ret nm G own post) {i ci : Nat} {owner : String} {x : MethodName} {y : MethodName} {cy : ByteArray} {nLy k' na idx : Nat} {r : Int64} {n2 : Nat} {Ty2 : Nat → xs_T} {I2 : xI_T} {L2 : xL_T} {F2 : xF_T} {rty : Option FieldType} {As rest : List Value} (hM : Cg l k' 0 0 y cy nLy rty G own (.ref (xb G + i) :: As) n Ty I L F (xpE (some (.long r)) n2 Ty2 I2 L2 F2)) (g : xcu cls idx ci owner x y cy nLy rty na) (hi : i < n) (ht : Ty i = some (.inl ci)) (d : decode cc pc = .ok (.invokevirtual idx, 3)) (hk : k' < k ∧ nLy ≤ 45) (hce : ce ≤ mc ∧ sl ≤ ms) (hna : As.length = na) (hrest : (rest.map fun v => v.category).sum ≤ 8)
    (kk : X Θ ce sl n2 Ty2 I2 L2 F2 (pc + 3) lv (.long r :: rest)) : X Θ ce sl n Ty I L F pc lv (As.reverse ++ .ref (xb G + i) :: rest) := by
  refine x_callU h hM g hi ht d hk hce hna hrest ?_
  rintro _ _ _ _ _ _ ⟨rfl, rfl, rfl, rfl, rfl, rfl⟩
  exact kk
theorem x_callUEv (h : XOk Θ l cls cc nL k mc ms ret nm G own post) {i ci : Nat} {owner : String} {x : MethodName} {y : MethodName} {cy : ByteArray} {nLy k' na idx : Nat} {n2 : Nat} {Ty2 : Nat → xs_T} {I2 : xI_T} {L2 : xL_T} {F2 : xF_T} {rty : Option FieldType} {As rest : List Value} (hM : Cg l k' 0 0 y cy nLy rty G own (.ref (xb G + i) :: As) n Ty I L F (xpE none n2 Ty2 I2 L2 F2)) (g : xcu cls idx ci owner x y cy nLy rty na) (hi : i < n) (ht : Ty i = some (.inl ci)) (d : decode cc pc = .ok (.invokevirtual idx, 3)) (hk : k' < k ∧ nLy ≤ 45) (hce : ce ≤ mc ∧ sl ≤ ms) (hna : As.length = na) (hrest : (rest.map fun v => v.category).sum ≤ 8)
    (kk : X Θ ce sl n2 Ty2 I2 L2 F2 (pc + 3) lv rest) : X Θ ce sl n Ty I L F pc lv (As.reverse ++ .ref (xb G + i) :: rest) := by
  refine x_callU h hM g hi ht d hk hce hna hrest ?_
  rintro _ _ _ _ _ _ ⟨rfl, rfl, rfl, rfl, rfl, rfl⟩
  exact kk
set_option maxHeartbeats 1000000 in
theorem x_callP (h : XOk Θ l cls cc nL k mc ms ret nm G own post) {i ci : Nat} {y : MethodName} {cy : ByteArray} {nLy k' mc' ms' na idx : Nat} {rty : Option FieldType} {As rest : List Value} {post' : xP_T} (hM : Cg l k' mc' ms' y cy nLy rty G own (.ref (xb G + i) :: As) n Ty I L F post') (g : xcp cls idx y cy nLy rty na) (hi : i < n) (ht : Ty i = some (.inl ci)) (d : decode cc pc = .ok (.invokespecial idx, 3)) (hk : k' < k ∧ nLy ≤ 45) (hce : ce + mc' ≤ mc ∧ sl + ms' ≤ ms) (hna : As.length = na) (hrest : (rest.map fun v => v.category).sum ≤ 8)
    (kk : ∀ (v : Option Value) (n' : Nat) (Ty' : Nat → xs_T) (I' : xI_T) (L' : xL_T) (F' : xF_T), post' v n' Ty' I' L' F' → X Θ (ce + mc') (sl + ms') n' Ty' I' L' F' (pc + 3) lv (v.toList ++ rest)) : X Θ ce sl n Ty I L F pc lv (As.reverse ++ .ref (xb G + i) :: rest) := by
  obtain ⟨⟨p, l9, e, R, s, m, args, below, meth, c, Qx⟩, G9, own9, nL9, mc9, ms9, post9⟩ := Θ
  obtain ⟨⟨rfl, rfl, rfl, rfl, rfl, rfl, rfl⟩, hx, hb, hml, hown, hts, hKK, hK, hr, hlk, rfl, hnm, hsz, hmq⟩ := h
  intro H locs ls hw hS hl
  obtain ⟨hg, hno, hd⟩ := g
  have hcx : ∃ (C : String) (T : u_T) (N : Nat), xcl[ci]? = some (C, T, N) := by
    obtain ⟨r, h1, -⟩ := hw.2.2.2 i _ hi (xcell_o ht)
    exact ⟨r.1, r.2.1, r.2.2, h1⟩
  obtain ⟨C, T, N, hc⟩ := hcx
  have hr0 : va_Run p l e (xrm k mc ms) s m args below meth c H locs ce sl mc' ms' (F0 m pc ls (As.reverse ++ .ref (xb G + i) :: rest)) rest (xQ G own post' (.ref (xb G + i) :: As : List Value).toArray) (xA G own) := va_runSU (rest := rest) (C := C) (g := F0 m pc ls (As.reverse ++ .ref (xb G + i) :: rest)) (hK.1 ci _ hc).2 ⟨hx, hb, hml, hown, hts⟩ hM (va_cwSU (R := xrm k mc ms) na hts hg rfl rfl rfl ⟨hno, hd⟩ ⟨hk.1, by show 8 + (nLy + 11) + 64 * k' ≤ 64 * k; omega⟩) ⟨xblind, va_recv hK (hw.at hi (xcell_o ht)) hc (q0 := 0) rfl, fun U hU hW => ⟨rfl, by rw [hU]; exact hw, hKK.warm hW⟩⟩ rfl hna hl.1 rfl (lv_room hrest) d hce
  intro T hT Xs
  obtain ⟨v, st₀, t, T', L0, h0, X', hL, e1, e2, ⟨⟨v', n', Ty', I', L', F', hv, hp, hw'⟩, hz, hkp⟩, hst⟩ := hr0 T hT Xs
  cases hv
  rw [h0] at hz hkp
  obtain ⟨t2, a1, b1⟩ := kk v n' Ty' I' L' F' hp T'.heap (locs ++ L0) ls (by rw [e1]; exact hw')
    ⟨Nat.le_trans hS.1 (by rw [e1]; exact hz), fun q h1 h2 => by rw [e1, hkp q (Nat.lt_of_lt_of_le h1 hS.1) h2]; exact hS.2.1 q h1 h2, fun q hq => by
      rcases List.mem_append.mp hq with hq | hq
      · exact hS.2.2 q hq
      · exact hL q hq⟩ hl T' rfl X'
  exact ⟨t2, hst t2 a1, b1⟩
theorem x_callPRi (h : XOk Θ l cls cc nL k mc ms ret nm G own post) {i ci : Nat} {y : MethodName} {cy : ByteArray} {nLy k' na idx : Nat} {ψ : Int32 → xI_T → Prop} {rty : Option FieldType} {As rest : List Value} (hM : Cg l k' 0 0 y cy nLy rty G own (.ref (xb G + i) :: As) n Ty I L F (xpR n Ty L F (aR ψ))) (g : xcp cls idx y cy nLy rty na) (hi : i < n) (ht : Ty i = some (.inl ci)) (d : decode cc pc = .ok (.invokespecial idx, 3)) (hk : k' < k ∧ nLy ≤ 45) (hce : ce ≤ mc ∧ sl ≤ ms) (hna : As.length = na) (hrest : (rest.map fun v => v.category).sum ≤ 8)
    (kk : ∀ (r : Int32) (J : xI_T), ψ r J → X Θ ce sl n Ty J L F (pc + 3) lv (.int r :: rest)) : X Θ ce sl n Ty I L F pc lv (As.reverse ++ .ref (xb G + i) :: rest) := by
  refine x_callP h hM g hi ht d hk hce hna hrest ?_
  rintro _ _ _ J _ _ ⟨rfl, rfl, rfl, rfl, r, rfl, hp⟩
  exact kk r J hp
theorem x_callPRv (h : XOk Θ l cls cc nL k mc ms ret nm G own post) {i ci : Nat} {y : MethodName} {cy : ByteArray} {nLy k' na idx : Nat} {ψ : xI_T → Prop} {rty : Option FieldType} {As rest : List Value} (hM : Cg l k' 0 0 y cy nLy rty G own (.ref (xb G + i) :: As) n Ty I L F (xpR n Ty L F (aV ψ))) (g : xcp cls idx y cy nLy rty na) (hi : i < n) (ht : Ty i = some (.inl ci)) (d : decode cc pc = .ok (.invokespecial idx, 3)) (hk : k' < k ∧ nLy ≤ 45) (hce : ce ≤ mc ∧ sl ≤ ms) (hna : As.length = na) (hrest : (rest.map fun v => v.category).sum ≤ 8)
    (kk : ∀ (J : xI_T), ψ J → X Θ ce sl n Ty J L F (pc + 3) lv rest) : X Θ ce sl n Ty I L F pc lv (As.reverse ++ .ref (xb G + i) :: rest) := by
  refine x_callP h hM g hi ht d hk hce hna hrest ?_
  rintro _ _ _ J _ _ ⟨rfl, rfl, rfl, rfl, rfl, hp⟩
  exact kk J hp
theorem x_callPEi (h : XOk Θ l cls cc nL k mc ms ret nm G own post) {i ci : Nat} {y : MethodName} {cy : ByteArray} {nLy k' na idx : Nat} {r : Int32} {n2 : Nat} {Ty2 : Nat → xs_T} {I2 : xI_T} {L2 : xL_T} {F2 : xF_T} {rty : Option FieldType} {As rest : List Value} (hM : Cg l k' 0 0 y cy nLy rty G own (.ref (xb G + i) :: As) n Ty I L F (xpE (some (.int r)) n2 Ty2 I2 L2 F2)) (g : xcp cls idx y cy nLy rty na) (hi : i < n) (ht : Ty i = some (.inl ci)) (d : decode cc pc = .ok (.invokespecial idx, 3)) (hk : k' < k ∧ nLy ≤ 45) (hce : ce ≤ mc ∧ sl ≤ ms) (hna : As.length = na) (hrest : (rest.map fun v => v.category).sum ≤ 8)
    (kk : X Θ ce sl n2 Ty2 I2 L2 F2 (pc + 3) lv (.int r :: rest)) : X Θ ce sl n Ty I L F pc lv (As.reverse ++ .ref (xb G + i) :: rest) := by
  refine x_callP h hM g hi ht d hk hce hna hrest ?_
  rintro _ _ _ _ _ _ ⟨rfl, rfl, rfl, rfl, rfl, rfl⟩
  exact kk
theorem x_callPEl (h : XOk Θ l cls cc nL k mc ms ret nm G own post) {i ci : Nat} {y : MethodName} {cy : ByteArray} {nLy k' na idx : Nat} {r : Int64} {n2 : Nat} {Ty2 : Nat → xs_T} {I2 : xI_T} {L2 : xL_T} {F2 : xF_T} {rty : Option FieldType} {As rest : List Value} (hM : Cg l k' 0 0 y cy nLy rty G own (.ref (xb G + i) :: As) n Ty I L F (xpE (some (.long r)) n2 Ty2 I2 L2 F2)) (g : xcp cls idx y cy nLy rty na) (hi : i < n) (ht : Ty i = some (.inl ci)) (d : decode cc pc = .ok (.invokespecial idx, 3)) (hk : k' < k ∧ nLy ≤ 45) (hce : ce ≤ mc ∧ sl ≤ ms) (hna : As.length = na) (hrest : (rest.map fun v => v.category).sum ≤ 8)
    (kk : X Θ ce sl n2 Ty2 I2 L2 F2 (pc + 3) lv (.long r :: rest)) : X Θ ce sl n Ty I L F pc lv (As.reverse ++ .ref (xb G + i) :: rest) := by
  refine x_callP h hM g hi ht d hk hce hna hrest ?_
  rintro _ _ _ _ _ _ ⟨rfl, rfl, rfl, rfl, rfl, rfl⟩
  exact kk
theorem x_callPEv (h : XOk Θ l cls cc nL k mc ms ret nm G own post) {i ci : Nat} {y : MethodName} {cy : ByteArray} {nLy k' na idx : Nat} {n2 : Nat} {Ty2 : Nat → xs_T} {I2 : xI_T} {L2 : xL_T} {F2 : xF_T} {rty : Option FieldType} {As rest : List Value} (hM : Cg l k' 0 0 y cy nLy rty G own (.ref (xb G + i) :: As) n Ty I L F (xpE none n2 Ty2 I2 L2 F2)) (g : xcp cls idx y cy nLy rty na) (hi : i < n) (ht : Ty i = some (.inl ci)) (d : decode cc pc = .ok (.invokespecial idx, 3)) (hk : k' < k ∧ nLy ≤ 45) (hce : ce ≤ mc ∧ sl ≤ ms) (hna : As.length = na) (hrest : (rest.map fun v => v.category).sum ≤ 8)
    (kk : X Θ ce sl n2 Ty2 I2 L2 F2 (pc + 3) lv rest) : X Θ ce sl n Ty I L F pc lv (As.reverse ++ .ref (xb G + i) :: rest) := by
  refine x_callP h hM g hi ht d hk hce hna hrest ?_
  rintro _ _ _ _ _ _ ⟨rfl, rfl, rfl, rfl, rfl, rfl⟩
  exact kk
set_option maxHeartbeats 1000000 in
theorem x_callIN (h : XOk Θ l cls cc nL k mc ms ret nm G own post) {i : Nat} {y : MethodName} {cy : ByteArray} {nLy k' mc' ms' na idx : Nat} {As rest : List Value} {post' : xP_T} (hM : Cg l k' mc' ms' y cy nLy none G own (.ref (xb G + i) :: As) n Ty I L F post') (g : xcin cls idx y cy nLy na)  (d : decode cc pc = .ok (.invokespecial idx, 3)) (hk : k' < k ∧ nLy ≤ 45) (hce : ce + mc' ≤ mc ∧ sl + ms' ≤ ms) (hna : As.length = na) (hrest : (rest.map fun v => v.category).sum ≤ 8)
    (kk : ∀ (v : Option Value) (n' : Nat) (Ty' : Nat → xs_T) (I' : xI_T) (L' : xL_T) (F' : xF_T), post' v n' Ty' I' L' F' → X Θ (ce + mc') (sl + ms') n' Ty' I' L' F' (pc + 3) lv (v.toList ++ rest)) : X Θ ce sl n Ty I L F pc lv (As.reverse ++ .ref (xb G + i) :: rest) := by
  obtain ⟨⟨p, l9, e, R, s, m, args, below, meth, c, Qx⟩, G9, own9, nL9, mc9, ms9, post9⟩ := Θ
  obtain ⟨⟨rfl, rfl, rfl, rfl, rfl, rfl, rfl⟩, hx, hb, hml, hown, hts, hKK, hK, hr, hlk, rfl, hnm, hsz, hmq⟩ := h
  intro H locs ls hw hS hl
  obtain ⟨host, hg, hg1, hg2, hg3, hg4, hd⟩ := g
  have hr0 : va_Run p l e (xrm k mc ms) s m args below meth c H locs ce sl mc' ms' (F0 m pc ls (As.reverse ++ .ref (xb G + i) :: rest)) rest (xQ G own post' (.ref (xb G + i) :: As : List Value).toArray) (xA G own) := va_runIN (rest := rest) (g := F0 m pc ls (As.reverse ++ .ref (xb G + i) :: rest)) ⟨hx, hb, hml, hown, hts⟩ hM ⟨va_cnB (R := xrm k mc ms) na hts hg rfl rfl rfl (hKK.nwM hg2) (hts _ hg1) hd ⟨hk.1, by show 8 + (nLy + 11) + 64 * k' ≤ 64 * k; omega⟩, hg4, hts _ hg3⟩ ⟨xblind, fun U hU hW => ⟨rfl, by rw [hU]; exact hw, hKK.warm hW⟩⟩ rfl hna hl.1 rfl (lv_room hrest) d hce
  intro T hT Xs
  obtain ⟨v, st₀, t, T', L0, h0, X', hL, e1, e2, ⟨⟨v', n', Ty', I', L', F', hv, hp, hw'⟩, hz, hkp⟩, hst⟩ := hr0 T hT Xs
  cases hv
  rw [h0] at hz hkp
  obtain ⟨t2, a1, b1⟩ := kk v n' Ty' I' L' F' hp T'.heap (locs ++ L0) ls (by rw [e1]; exact hw')
    ⟨Nat.le_trans hS.1 (by rw [e1]; exact hz), fun q h1 h2 => by rw [e1, hkp q (Nat.lt_of_lt_of_le h1 hS.1) h2]; exact hS.2.1 q h1 h2, fun q hq => by
      rcases List.mem_append.mp hq with hq | hq
      · exact hS.2.2 q hq
      · exact hL q hq⟩ hl T' rfl X'
  exact ⟨t2, hst t2 a1, b1⟩
theorem x_callINRv (h : XOk Θ l cls cc nL k mc ms ret nm G own post) {i : Nat} {y : MethodName} {cy : ByteArray} {nLy k' na idx : Nat} {ψ : xI_T → Prop} {As rest : List Value} (hM : Cg l k' 0 0 y cy nLy none G own (.ref (xb G + i) :: As) n Ty I L F (xpR n Ty L F (aV ψ))) (g : xcin cls idx y cy nLy na)  (d : decode cc pc = .ok (.invokespecial idx, 3)) (hk : k' < k ∧ nLy ≤ 45) (hce : ce ≤ mc ∧ sl ≤ ms) (hna : As.length = na) (hrest : (rest.map fun v => v.category).sum ≤ 8)
    (kk : ∀ (J : xI_T), ψ J → X Θ ce sl n Ty J L F (pc + 3) lv rest) : X Θ ce sl n Ty I L F pc lv (As.reverse ++ .ref (xb G + i) :: rest) := by
  refine x_callIN h hM g  d hk hce hna hrest ?_
  rintro _ _ _ J _ _ ⟨rfl, rfl, rfl, rfl, rfl, hp⟩
  exact kk J hp
theorem x_callINEv (h : XOk Θ l cls cc nL k mc ms ret nm G own post) {i : Nat} {y : MethodName} {cy : ByteArray} {nLy k' na idx : Nat} {n2 : Nat} {Ty2 : Nat → xs_T} {I2 : xI_T} {L2 : xL_T} {F2 : xF_T} {As rest : List Value} (hM : Cg l k' 0 0 y cy nLy none G own (.ref (xb G + i) :: As) n Ty I L F (xpE none n2 Ty2 I2 L2 F2)) (g : xcin cls idx y cy nLy na)  (d : decode cc pc = .ok (.invokespecial idx, 3)) (hk : k' < k ∧ nLy ≤ 45) (hce : ce ≤ mc ∧ sl ≤ ms) (hna : As.length = na) (hrest : (rest.map fun v => v.category).sum ≤ 8)
    (kk : X Θ ce sl n2 Ty2 I2 L2 F2 (pc + 3) lv rest) : X Θ ce sl n Ty I L F pc lv (As.reverse ++ .ref (xb G + i) :: rest) := by
  refine x_callIN h hM g  d hk hce hna hrest ?_
  rintro _ _ _ _ _ _ ⟨rfl, rfl, rfl, rfl, rfl, rfl⟩
  exact kk
set_option maxHeartbeats 1000000 in
theorem x_callSN (h : XOk Θ l cls cc nL k mc ms ret nm G own post)  {y : MethodName} {cy : ByteArray} {nLy k' mc' ms' na idx : Nat} {rty : Option FieldType} {As rest : List Value} {post' : xP_T} (hM : Cg l k' mc' ms' y cy nLy rty G own (As) n Ty I L F post') (g : xcsn cls idx y cy nLy rty na)  (d : decode cc pc = .ok (.invokestatic idx, 3)) (hk : k' < k ∧ nLy ≤ 45) (hce : ce + mc' ≤ mc ∧ sl + ms' ≤ ms) (hna : As.length = na) (hrest : (rest.map fun v => v.category).sum ≤ 8)
    (kk : ∀ (v : Option Value) (n' : Nat) (Ty' : Nat → xs_T) (I' : xI_T) (L' : xL_T) (F' : xF_T), post' v n' Ty' I' L' F' → X Θ (ce + mc') (sl + ms') n' Ty' I' L' F' (pc + 3) lv (v.toList ++ rest)) : X Θ ce sl n Ty I L F pc lv (As.reverse ++ rest) := by
  obtain ⟨⟨p, l9, e, R, s, m, args, below, meth, c, Qx⟩, G9, own9, nL9, mc9, ms9, post9⟩ := Θ
  obtain ⟨⟨rfl, rfl, rfl, rfl, rfl, rfl, rfl⟩, hx, hb, hml, hown, hts, hKK, hK, hr, hlk, rfl, hnm, hsz, hmq⟩ := h
  intro H locs ls hw hS hl
  obtain ⟨host, hg, hg1, hg2, hg3, hd⟩ := g
  have hr0 : va_Run p l e (xrm k mc ms) s m args below meth c H locs ce sl mc' ms' (F0 m pc ls (As.reverse ++ rest)) rest (xQ G own post' (As : List Value).toArray) (xA G own) := va_runSN (rest := rest) (g := F0 m pc ls (As.reverse ++ rest)) ⟨hx, hb, hml, hown, hts⟩ hM ⟨va_cnB (R := xrm k mc ms) na hts hg rfl rfl rfl (hKK.nwM hg2) (hts _ hg1) hd ⟨hk.1, by show 8 + (nLy + 11) + 64 * k' ≤ 64 * k; omega⟩, hts _ hg3, trivial⟩ ⟨xblind, fun U hU hW => ⟨rfl, by rw [hU]; exact hw, hKK.warm hW⟩⟩ rfl hna hl.1 rfl (lv_room hrest) d hce
  intro T hT Xs
  obtain ⟨v, st₀, t, T', L0, h0, X', hL, e1, e2, ⟨⟨v', n', Ty', I', L', F', hv, hp, hw'⟩, hz, hkp⟩, hst⟩ := hr0 T hT Xs
  cases hv
  rw [h0] at hz hkp
  obtain ⟨t2, a1, b1⟩ := kk v n' Ty' I' L' F' hp T'.heap (locs ++ L0) ls (by rw [e1]; exact hw')
    ⟨Nat.le_trans hS.1 (by rw [e1]; exact hz), fun q h1 h2 => by rw [e1, hkp q (Nat.lt_of_lt_of_le h1 hS.1) h2]; exact hS.2.1 q h1 h2, fun q hq => by
      rcases List.mem_append.mp hq with hq | hq
      · exact hS.2.2 q hq
      · exact hL q hq⟩ hl T' rfl X'
  exact ⟨t2, hst t2 a1, b1⟩
theorem x_callSNRi (h : XOk Θ l cls cc nL k mc ms ret nm G own post)  {y : MethodName} {cy : ByteArray} {nLy k' na idx : Nat} {ψ : Int32 → xI_T → Prop} {rty : Option FieldType} {As rest : List Value} (hM : Cg l k' 0 0 y cy nLy rty G own (As) n Ty I L F (xpR n Ty L F (aR ψ))) (g : xcsn cls idx y cy nLy rty na)  (d : decode cc pc = .ok (.invokestatic idx, 3)) (hk : k' < k ∧ nLy ≤ 45) (hce : ce ≤ mc ∧ sl ≤ ms) (hna : As.length = na) (hrest : (rest.map fun v => v.category).sum ≤ 8)
    (kk : ∀ (r : Int32) (J : xI_T), ψ r J → X Θ ce sl n Ty J L F (pc + 3) lv (.int r :: rest)) : X Θ ce sl n Ty I L F pc lv (As.reverse ++ rest) := by
  refine x_callSN h hM g  d hk hce hna hrest ?_
  rintro _ _ _ J _ _ ⟨rfl, rfl, rfl, rfl, r, rfl, hp⟩
  exact kk r J hp
theorem x_callSNRv (h : XOk Θ l cls cc nL k mc ms ret nm G own post)  {y : MethodName} {cy : ByteArray} {nLy k' na idx : Nat} {ψ : xI_T → Prop} {rty : Option FieldType} {As rest : List Value} (hM : Cg l k' 0 0 y cy nLy rty G own (As) n Ty I L F (xpR n Ty L F (aV ψ))) (g : xcsn cls idx y cy nLy rty na)  (d : decode cc pc = .ok (.invokestatic idx, 3)) (hk : k' < k ∧ nLy ≤ 45) (hce : ce ≤ mc ∧ sl ≤ ms) (hna : As.length = na) (hrest : (rest.map fun v => v.category).sum ≤ 8)
    (kk : ∀ (J : xI_T), ψ J → X Θ ce sl n Ty J L F (pc + 3) lv rest) : X Θ ce sl n Ty I L F pc lv (As.reverse ++ rest) := by
  refine x_callSN h hM g  d hk hce hna hrest ?_
  rintro _ _ _ J _ _ ⟨rfl, rfl, rfl, rfl, rfl, hp⟩
  exact kk J hp
theorem x_callSNEi (h : XOk Θ l cls cc nL k mc ms ret nm G own post)  {y : MethodName} {cy : ByteArray} {nLy k' na idx : Nat} {r : Int32} {n2 : Nat} {Ty2 : Nat → xs_T} {I2 : xI_T} {L2 : xL_T} {F2 : xF_T} {rty : Option FieldType} {As rest : List Value} (hM : Cg l k' 0 0 y cy nLy rty G own (As) n Ty I L F (xpE (some (.int r)) n2 Ty2 I2 L2 F2)) (g : xcsn cls idx y cy nLy rty na)  (d : decode cc pc = .ok (.invokestatic idx, 3)) (hk : k' < k ∧ nLy ≤ 45) (hce : ce ≤ mc ∧ sl ≤ ms) (hna : As.length = na) (hrest : (rest.map fun v => v.category).sum ≤ 8)
    (kk : X Θ ce sl n2 Ty2 I2 L2 F2 (pc + 3) lv (.int r :: rest)) : X Θ ce sl n Ty I L F pc lv (As.reverse ++ rest) := by
  refine x_callSN h hM g  d hk hce hna hrest ?_
  rintro _ _ _ _ _ _ ⟨rfl, rfl, rfl, rfl, rfl, rfl⟩
  exact kk
theorem x_callSNEl (h : XOk Θ l cls cc nL k mc ms ret nm G own post)  {y : MethodName} {cy : ByteArray} {nLy k' na idx : Nat} {r : Int64} {n2 : Nat} {Ty2 : Nat → xs_T} {I2 : xI_T} {L2 : xL_T} {F2 : xF_T} {rty : Option FieldType} {As rest : List Value} (hM : Cg l k' 0 0 y cy nLy rty G own (As) n Ty I L F (xpE (some (.long r)) n2 Ty2 I2 L2 F2)) (g : xcsn cls idx y cy nLy rty na)  (d : decode cc pc = .ok (.invokestatic idx, 3)) (hk : k' < k ∧ nLy ≤ 45) (hce : ce ≤ mc ∧ sl ≤ ms) (hna : As.length = na) (hrest : (rest.map fun v => v.category).sum ≤ 8)
    (kk : X Θ ce sl n2 Ty2 I2 L2 F2 (pc + 3) lv (.long r :: rest)) : X Θ ce sl n Ty I L F pc lv (As.reverse ++ rest) := by
  refine x_callSN h hM g  d hk hce hna hrest ?_
  rintro _ _ _ _ _ _ ⟨rfl, rfl, rfl, rfl, rfl, rfl⟩
  exact kk
theorem x_callSNEv (h : XOk Θ l cls cc nL k mc ms ret nm G own post)  {y : MethodName} {cy : ByteArray} {nLy k' na idx : Nat} {n2 : Nat} {Ty2 : Nat → xs_T} {I2 : xI_T} {L2 : xL_T} {F2 : xF_T} {rty : Option FieldType} {As rest : List Value} (hM : Cg l k' 0 0 y cy nLy rty G own (As) n Ty I L F (xpE none n2 Ty2 I2 L2 F2)) (g : xcsn cls idx y cy nLy rty na)  (d : decode cc pc = .ok (.invokestatic idx, 3)) (hk : k' < k ∧ nLy ≤ 45) (hce : ce ≤ mc ∧ sl ≤ ms) (hna : As.length = na) (hrest : (rest.map fun v => v.category).sum ≤ 8)
    (kk : X Θ ce sl n2 Ty2 I2 L2 F2 (pc + 3) lv rest) : X Θ ce sl n Ty I L F pc lv (As.reverse ++ rest) := by
  refine x_callSN h hM g  d hk hce hna hrest ?_
  rintro _ _ _ _ _ _ ⟨rfl, rfl, rfl, rfl, rfl, rfl⟩
  exact kk
set_option maxHeartbeats 1000000 in
theorem x_callF (h : XOk Θ l cls cc nL k mc ms ret nm G own post) {i ci cnt : Nat} {x : MethodName} {y : MethodName} {cy : ByteArray} {nLy k' mc' ms' na idx : Nat} {rty : Option FieldType} {As rest : List Value} {post' : xP_T} (hM : Cg l k' mc' ms' y cy nLy rty G own (.ref (xb G + i) :: As) n Ty I L F post') (g : xcf cls idx ci x y cy nLy rty na) (hi : i < n) (ht : Ty i = some (.inl ci)) (d : decode cc pc = .ok (.invokeinterface idx cnt, 5)) (hk : k' < k ∧ nLy ≤ 45) (hce : ce + mc' ≤ mc ∧ sl + ms' ≤ ms) (hna : As.length = na) (hrest : (rest.map fun v => v.category).sum ≤ 8)
    (kk : ∀ (v : Option Value) (n' : Nat) (Ty' : Nat → xs_T) (I' : xI_T) (L' : xL_T) (F' : xF_T), post' v n' Ty' I' L' F' → X Θ (ce + mc') (sl + ms') n' Ty' I' L' F' (pc + 5) lv (v.toList ++ rest)) : X Θ ce sl n Ty I L F pc lv (As.reverse ++ .ref (xb G + i) :: rest) := by
  obtain ⟨⟨p, l9, e, R, s, m, args, below, meth, c, Qx⟩, G9, own9, nL9, mc9, ms9, post9⟩ := Θ
  obtain ⟨⟨rfl, rfl, rfl, rfl, rfl, rfl, rfl⟩, hx, hb, hml, hown, hts, hKK, hK, hr, hlk, rfl, hnm, hsz, hmq⟩ := h
  intro H locs ls hw hS hl
  obtain ⟨C, T, N, hc, hg, q1, q2, q3, q4, q5, hd⟩ := g
  have hF : va_Fw C x y s := va_Fw.moved ⟨hd.1, hd.2.1⟩ hKK.2.alike (va_Fw.of (hKK.1.2.1 _ q1) (hKK.1.2.1 _ q2) (hKK.1.2.1 _ q3) (hKK.1.2.1 _ q4) (hKK.1.2.1 _ q5))
  have hr0 : va_Run5 p l e (xrm k mc ms) s m args below meth c H locs ce sl mc' ms' (F0 m pc ls (As.reverse ++ .ref (xb G + i) :: rest)) rest (xQ G own post' (.ref (xb G + i) :: As : List Value).toArray) (xA G own) := va_runF (rest := rest) (g := F0 m pc ls (As.reverse ++ .ref (xb G + i) :: rest)) (hK.1 ci _ hc).2 ⟨hx, hb, hml, hown, hts⟩ hM (va_cwF (R := xrm k mc ms) na hts hg rfl rfl rfl hF hd ⟨hk.1, by show 8 + (nLy + 11) + 64 * k' ≤ 64 * k; omega⟩) ⟨xblind, va_recv hK (hw.at hi (xcell_o ht)) hc (q0 := 0) rfl, fun U hU hW => ⟨rfl, by rw [hU]; exact hw, hKK.warm hW⟩⟩ rfl hna hl.1 rfl (lv_room hrest) d hce
  intro T hT Xs
  obtain ⟨v, st₀, t, T', L0, h0, X', hL, e1, e2, ⟨⟨v', n', Ty', I', L', F', hv, hp, hw'⟩, hz, hkp⟩, hst⟩ := hr0 T hT Xs
  cases hv
  rw [h0] at hz hkp
  obtain ⟨t2, a1, b1⟩ := kk v n' Ty' I' L' F' hp T'.heap (locs ++ L0) ls (by rw [e1]; exact hw')
    ⟨Nat.le_trans hS.1 (by rw [e1]; exact hz), fun q h1 h2 => by rw [e1, hkp q (Nat.lt_of_lt_of_le h1 hS.1) h2]; exact hS.2.1 q h1 h2, fun q hq => by
      rcases List.mem_append.mp hq with hq | hq
      · exact hS.2.2 q hq
      · exact hL q hq⟩ hl T' rfl X'
  exact ⟨t2, hst t2 a1, b1⟩
theorem x_callFRi (h : XOk Θ l cls cc nL k mc ms ret nm G own post) {i ci cnt : Nat} {x : MethodName} {y : MethodName} {cy : ByteArray} {nLy k' na idx : Nat} {ψ : Int32 → xI_T → Prop} {rty : Option FieldType} {As rest : List Value} (hM : Cg l k' 0 0 y cy nLy rty G own (.ref (xb G + i) :: As) n Ty I L F (xpR n Ty L F (aR ψ))) (g : xcf cls idx ci x y cy nLy rty na) (hi : i < n) (ht : Ty i = some (.inl ci)) (d : decode cc pc = .ok (.invokeinterface idx cnt, 5)) (hk : k' < k ∧ nLy ≤ 45) (hce : ce ≤ mc ∧ sl ≤ ms) (hna : As.length = na) (hrest : (rest.map fun v => v.category).sum ≤ 8)
    (kk : ∀ (r : Int32) (J : xI_T), ψ r J → X Θ ce sl n Ty J L F (pc + 5) lv (.int r :: rest)) : X Θ ce sl n Ty I L F pc lv (As.reverse ++ .ref (xb G + i) :: rest) := by
  refine x_callF h hM g hi ht d hk hce hna hrest ?_
  rintro _ _ _ J _ _ ⟨rfl, rfl, rfl, rfl, r, rfl, hp⟩
  exact kk r J hp
theorem x_callFRv (h : XOk Θ l cls cc nL k mc ms ret nm G own post) {i ci cnt : Nat} {x : MethodName} {y : MethodName} {cy : ByteArray} {nLy k' na idx : Nat} {ψ : xI_T → Prop} {rty : Option FieldType} {As rest : List Value} (hM : Cg l k' 0 0 y cy nLy rty G own (.ref (xb G + i) :: As) n Ty I L F (xpR n Ty L F (aV ψ))) (g : xcf cls idx ci x y cy nLy rty na) (hi : i < n) (ht : Ty i = some (.inl ci)) (d : decode cc pc = .ok (.invokeinterface idx cnt, 5)) (hk : k' < k ∧ nLy ≤ 45) (hce : ce ≤ mc ∧ sl ≤ ms) (hna : As.length = na) (hrest : (rest.map fun v => v.category).sum ≤ 8)
    (kk : ∀ (J : xI_T), ψ J → X Θ ce sl n Ty J L F (pc + 5) lv rest) : X Θ ce sl n Ty I L F pc lv (As.reverse ++ .ref (xb G + i) :: rest) := by
  refine x_callF h hM g hi ht d hk hce hna hrest ?_
  rintro _ _ _ J _ _ ⟨rfl, rfl, rfl, rfl, rfl, hp⟩
  exact kk J hp
theorem x_callFEi (h : XOk Θ l cls cc nL k mc ms ret nm G own post) {i ci cnt : Nat} {x : MethodName} {y : MethodName} {cy : ByteArray} {nLy k' na idx : Nat} {r : Int32} {n2 : Nat} {Ty2 : Nat → xs_T} {I2 : xI_T} {L2 : xL_T} {F2 : xF_T} {rty : Option FieldType} {As rest : List Value} (hM : Cg l k' 0 0 y cy nLy rty G own (.ref (xb G + i) :: As) n Ty I L F (xpE (some (.int r)) n2 Ty2 I2 L2 F2)) (g : xcf cls idx ci x y cy nLy rty na) (hi : i < n) (ht : Ty i = some (.inl ci)) (d : decode cc pc = .ok (.invokeinterface idx cnt, 5)) (hk : k' < k ∧ nLy ≤ 45) (hce : ce ≤ mc ∧ sl ≤ ms) (hna : As.length = na) (hrest : (rest.map fun v => v.category).sum ≤ 8)
    (kk : X Θ ce sl n2 Ty2 I2 L2 F2 (pc + 5) lv (.int r :: rest)) : X Θ ce sl n Ty I L F pc lv (As.reverse ++ .ref (xb G + i) :: rest) := by
  refine x_callF h hM g hi ht d hk hce hna hrest ?_
  rintro _ _ _ _ _ _ ⟨rfl, rfl, rfl, rfl, rfl, rfl⟩
  exact kk
theorem x_callFEl (h : XOk Θ l cls cc nL k mc ms ret nm G own post) {i ci cnt : Nat} {x : MethodName} {y : MethodName} {cy : ByteArray} {nLy k' na idx : Nat} {r : Int64} {n2 : Nat} {Ty2 : Nat → xs_T} {I2 : xI_T} {L2 : xL_T} {F2 : xF_T} {rty : Option FieldType} {As rest : List Value} (hM : Cg l k' 0 0 y cy nLy rty G own (.ref (xb G + i) :: As) n Ty I L F (xpE (some (.long r)) n2 Ty2 I2 L2 F2)) (g : xcf cls idx ci x y cy nLy rty na) (hi : i < n) (ht : Ty i = some (.inl ci)) (d : decode cc pc = .ok (.invokeinterface idx cnt, 5)) (hk : k' < k ∧ nLy ≤ 45) (hce : ce ≤ mc ∧ sl ≤ ms) (hna : As.length = na) (hrest : (rest.map fun v => v.category).sum ≤ 8)
    (kk : X Θ ce sl n2 Ty2 I2 L2 F2 (pc + 5) lv (.long r :: rest)) : X Θ ce sl n Ty I L F pc lv (As.reverse ++ .ref (xb G + i) :: rest) := by
  refine x_callF h hM g hi ht d hk hce hna hrest ?_
  rintro _ _ _ _ _ _ ⟨rfl, rfl, rfl, rfl, rfl, rfl⟩
  exact kk
theorem x_callFEv (h : XOk Θ l cls cc nL k mc ms ret nm G own post) {i ci cnt : Nat} {x : MethodName} {y : MethodName} {cy : ByteArray} {nLy k' na idx : Nat} {n2 : Nat} {Ty2 : Nat → xs_T} {I2 : xI_T} {L2 : xL_T} {F2 : xF_T} {rty : Option FieldType} {As rest : List Value} (hM : Cg l k' 0 0 y cy nLy rty G own (.ref (xb G + i) :: As) n Ty I L F (xpE none n2 Ty2 I2 L2 F2)) (g : xcf cls idx ci x y cy nLy rty na) (hi : i < n) (ht : Ty i = some (.inl ci)) (d : decode cc pc = .ok (.invokeinterface idx cnt, 5)) (hk : k' < k ∧ nLy ≤ 45) (hce : ce ≤ mc ∧ sl ≤ ms) (hna : As.length = na) (hrest : (rest.map fun v => v.category).sum ≤ 8)
    (kk : X Θ ce sl n2 Ty2 I2 L2 F2 (pc + 5) lv rest) : X Θ ce sl n Ty I L F pc lv (As.reverse ++ .ref (xb G + i) :: rest) := by
  refine x_callF h hM g hi ht d hk hce hna hrest ?_
  rintro _ _ _ _ _ _ ⟨rfl, rfl, rfl, rfl, rfl, rfl⟩
  exact kk
end XV
