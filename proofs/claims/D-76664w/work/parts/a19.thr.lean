/-! METHODS that may throw out, and their calls -/
abbrev xPX : Type := String → Nat → (Nat → xs_T) → xI_T → xL_T → xF_T → Prop
def xX (G : xG_T) (own : Nat → Prop) (px : xPX) : String → State → State → Prop := fun E st t => (∃ (n : Nat) (Ty : Nat → xs_T) (I : xI_T) (L : xL_T) (F : xF_T), px E n Ty I L F ∧ Wd G own n Ty I L F t.heap) ∧ va_F (xA G own) st t
/-- .. it returns, with post, or throws, with px -/
def CgX (l : Launch) (k mc ms : Nat) (y : MethodName) (cc : ByteArray) (nL : Nat) (ret : Option FieldType) (G : xG_T) (own : Nat → Prop) (av : List Value) (n : Nat) (Ty : Nat → xs_T) (I : xI_T) (L : xL_T) (F : xF_T) (post : xP_T) (px : xPX) : Prop :=
  vx_Met l y (ws_ y cc nL ret) (xrm k mc ms) (va_Pc av (fun U => Wd G own n Ty I L F U.heap ∧ xKK G U)) (xQ G own post) (xX G own px) mc ms (xA G own)
def XOut (Θ : xT_T) (px : xPX) : Prop := match Θ with
  | ((p, l, e, R, s, m, args, below, meth, c, Qx), G, own, nL, mc, ms, post) => (∀ x ∈ c.exceptionTable.toList, False) ∧ ∀ t : State, vx_MQ below (xQ G own post) (xX G own px) args s mc ms (xA G own) t → Qx t
set_option maxHeartbeats 1000000 in
theorem CgX.intro {l : Launch} {k mc ms : Nat} {y : MethodName} {cc : ByteArray} {nL : Nat} {ret : Option FieldType} {G : xG_T} {own : Nat → Prop} {av : List Value} {n : Nat} {Ty : Nat → xs_T} {I : xI_T} {L : xL_T} {F : xF_T} {post : xP_T} {px : xPX} {lv : List (Option Value)} {cls : String} {pad : Nat} (hcls : y.cls = cls) (hy : plainName cls = true) (hlen : (lg_sl av).length ≤ nL) (hlv : xlv av ++ List.replicate pad none = lv)
    (body : ∀ Θ : xT_T, XOk Θ l cls cc nL k mc ms ret y.name G own post → XOut Θ px → X Θ 0 0 n Ty I L F 0 lv []) : CgX l k mc ms y cc nL ret G own av n Ty I L F post px := by
  subst hcls
  refine vx_ofW (cc := cc) (maxL := nL) (ret := ret) hy rfl ?_
  intro p e s m args below meth c s₁ B hml htab hv
  obtain ⟨rfl, hw, hK⟩ := hv
  have hts := atoms_spec (ws := ws_ y cc nL ret) B.pre
  have hts : ∀ w ∈ lw_all, w.before av.toArray s = true := fun w h => hts w (List.mem_cons_of_mem _ h)
  have hown : s.vm.findClass y.cls = some m.cls := findClass_of_methodNamed B.named
  have hl := lv_entry av (n := nL) hlen
  rw [lg_entry_eq]
  generalize (lg_sl av ++ List.replicate (nL - (lg_sl av).length) Slot.unset).toArray = ls at hl ⊢
  have hx : xloc ls nL lv := ⟨hl.1, hl.2.1, fun i v h => hl.2.2 (i, v) (by
    subst hlv
    have h2 : (xlv av)[i]? = some (some v) := by
      by_cases hi : i < (xlv av).length
      · rw [List.getElem?_append_left hi] at h
        exact h
      · rw [List.getElem?_append_right (Nat.not_lt.mp hi), List.getElem?_replicate] at h
        split at h <;> cases h
    have h1 := xlv_args av 0 i v h2
    rwa [Nat.zero_add] at h1)⟩
  exact body ((p, l, e, _, s, m, av.toArray, below, meth, c, vx_MQ below (xQ G own post) (xX G own px) av.toArray s mc ms (xA G own)), G, own, nL, mc, ms, post) ⟨⟨rfl, rfl, rfl, rfl, rfl, rfl, rfl⟩, B.exec, B.bytes, hml, hown, hts, hK, hK.K, B.returns, B.notSynchronized, rfl, (name_of_methodNamed B.named B.method).1, by rw [hw.1]; exact Nat.le_add_right _ _, fun t ⟨o, b1, b2, b3, b4⟩ => ⟨o, b1, b2, Or.inl ⟨b3, b4⟩⟩⟩ ⟨htab, fun _ z => z⟩ s.heap [] ls hw va_S.rf hx
section XR
variable {Θ : xT_T} {l : Launch} {cls : String} {cc : ByteArray} {nL k mc ms : Nat} {ret : Option FieldType} {nm : String} {G : xG_T} {own : Nat → Prop} {post : xP_T} {ce sl n : Nat} {Ty : Nat → xs_T} {I : xI_T} {L : xL_T} {F : xF_T} {pc : Nat} {lv : List (Option Value)} {st : List Value}
/-- thrown out of the method -/
theorem x_out (h : XOk Θ l cls cc nL k mc ms ret nm G own post) {px : xPX} (hX : XOut Θ px) {E : String} (hp : px E n Ty I L F) (hce : ce ≤ mc) (hsl : sl ≤ ms) : XN Θ ce sl n Ty I L F pc lv st E := by
  obtain ⟨⟨p, l9, e, R, s, m, args, below, meth, c, Qx⟩, G9, own9, nL9, mc9, ms9, post9⟩ := Θ
  obtain ⟨⟨rfl, rfl, rfl, rfl, rfl, rfl, rfl⟩, hx, hbt, hml, hown, hts, hKK, hK, hr, hlk, rfl, hnm, hsz, hmq⟩ := h
  obtain ⟨htab, hq⟩ := hX
  intro H locs ls hw hS hl q cell hc hv hcl
  have w := vx_out (p := p) (l := l) (e := e) (R := xrm k mc ms) (s := s) (m := m) (args := args) (below := below) (meth := meth) (c := c) (H := H) (locs := locs) (cells := ce) (slots := sl) (ls := ls) (rest := st) (pc := pc) (E := E) (ce := cell) (q := q) (mc := mc) (ms := ms) (free := xA G own) (Qc := xQ G own post) (XC := xX G own px) (fun x hx => absurd (htab x hx) id) hlk hc hv hcl (fun t ht _ => ⟨⟨n, Ty, I, L, F, hp, by rw [ht]; exact hw⟩, by rw [ht]; exact hS.1, fun z h1 h2 => by rw [ht]; exact hS.2.1 z h1 h2⟩) (fun z hz => hS.2.2 z hz) hce hsl
  intro T hT Xs
  obtain ⟨t, a, b⟩ := w T hT Xs
  exact ⟨t, a, hq t b⟩
set_option maxHeartbeats 1000000 in
theorem x_callVX (h : XOk Θ l cls cc nL k mc ms ret nm G own post) {i ci : Nat} {y : MethodName} {cy : ByteArray} {nLy k' mc' ms' na idx : Nat} {rty : Option FieldType} {As rest : List Value} {post' : xP_T} {px' : xPX} (hM : CgX l k' mc' ms' y cy nLy rty G own (.ref (xb G + i) :: As) n Ty I L F post' px') (g : xcv cls idx ci y cy nLy rty na) (hi : i < n) (ht : Ty i = some (.inl ci)) (d : decode cc pc = .ok (.invokevirtual idx, 3)) (hk : k' < k ∧ nLy ≤ 45) (hce : ce + mc' ≤ mc ∧ sl + ms' ≤ ms) (hna : As.length = na) (hrest : (rest.map fun v => v.category).sum ≤ 8)
    (kx : ∀ (E : String) (n' : Nat) (Ty' : Nat → xs_T) (I' : xI_T) (L' : xL_T) (F' : xF_T), px' E n' Ty' I' L' F' → XN Θ (ce + mc') (sl + ms') n' Ty' I' L' F' pc lv rest E)
    (kk : ∀ (v : Option Value) (n' : Nat) (Ty' : Nat → xs_T) (I' : xI_T) (L' : xL_T) (F' : xF_T), post' v n' Ty' I' L' F' → X Θ (ce + mc') (sl + ms') n' Ty' I' L' F' (pc + 3) lv (v.toList ++ rest)) : X Θ ce sl n Ty I L F pc lv (As.reverse ++ .ref (xb G + i) :: rest) := by
  obtain ⟨⟨p, l9, e, R, s, m, args, below, meth, c, Qx⟩, G9, own9, nL9, mc9, ms9, post9⟩ := Θ
  obtain ⟨⟨rfl, rfl, rfl, rfl, rfl, rfl, rfl⟩, hx, hb, hml, hown, hts, hKK, hK, hr, hlk, rfl, hnm, hsz, hmq⟩ := h
  intro H locs ls hw hS hl
  obtain ⟨C, T, N, hc, hg, hd⟩ := g
  have hr0 : vx_Run p l e (xrm k mc ms) s m args below meth c H locs ce sl mc' ms' (F0 m pc ls (As.reverse ++ .ref (xb G + i) :: rest)) rest (xQ G own post' (.ref (xb G + i) :: As : List Value).toArray) (xX G own px') (xA G own) := vx_runV (rest := rest) ⟨hx, hb, hml, hown, hts⟩ hM (cwV (R := xrm k mc ms) na hts hg rfl rfl rfl hd ⟨hk.1, by show 8 + (nLy + 11) + 64 * k' ≤ 64 * k; omega⟩) ⟨xblind, va_recv hK (hw.at hi (xcell_o ht)) hc (q0 := 0) rfl, fun U hU hW => ⟨rfl, by rw [hU]; exact hw, hKK.warm hW⟩⟩ rfl hna hl.1 (rfl : (F0 m pc ls (As.reverse ++ .ref (xb G + i) :: rest)).stack = _) (lv_room hrest) d hce
  intro T hT Xs
  rcases hr0 T hT Xs with ⟨v, st₀, t, T', L0, h0, X', hL, e1, e2, ⟨⟨v', n', Ty', I', L', F', hv, hp, hw'⟩, hz, hkp⟩, hst⟩ | ⟨q, st₀, t, T', L0, E, cell, h0, X', hL, e1, e2, ⟨⟨n', Ty', I', L', F', hp, hw'⟩, hz, hkp⟩, hce9, hcv, hcl, hst⟩
  · cases hv
    rw [h0] at hz hkp
    obtain ⟨t2, a1, b1⟩ := kk v n' Ty' I' L' F' hp T'.heap (locs ++ L0) ls (by rw [e1]; exact hw')
      ⟨Nat.le_trans hS.1 (by rw [e1]; exact hz), fun q h1 h2 => by rw [e1, hkp q (Nat.lt_of_lt_of_le h1 hS.1) h2]; exact hS.2.1 q h1 h2, fun q hq => by
        rcases List.mem_append.mp hq with hq | hq
        · exact hS.2.2 q hq
        · exact hL q hq⟩ hl T' rfl X'
    exact ⟨t2, hst t2 a1, b1⟩
  · rw [h0] at hz hkp
    obtain ⟨t2, a1, b1⟩ := kx E n' Ty' I' L' F' hp T'.heap (locs ++ L0) ls (by rw [e1]; exact hw')
      ⟨Nat.le_trans hS.1 (by rw [e1]; exact hz), fun q h1 h2 => by rw [e1, hkp q (Nat.lt_of_lt_of_le h1 hS.1) h2]; exact hS.2.1 q h1 h2, fun q hq => by
        rcases List.mem_append.mp hq with hq | hq
        · exact hS.2.2 q hq
        · exact hL q hq⟩ hl q cell (by rw [e1]; exact hce9) hcv hcl T' rfl X'
    exact ⟨t2, hst.trans a1, b1⟩
set_option maxHeartbeats 1000000 in
theorem x_callSX (h : XOk Θ l cls cc nL k mc ms ret nm G own post) {y : MethodName} {cy : ByteArray} {nLy k' mc' ms' na idx : Nat} {rty : Option FieldType} {As rest : List Value} {post' : xP_T} {px' : xPX} (hM : CgX l k' mc' ms' y cy nLy rty G own (As) n Ty I L F post' px') (g : xcs cls idx y cy nLy rty na) (d : decode cc pc = .ok (.invokestatic idx, 3)) (hk : k' < k ∧ nLy ≤ 45) (hce : ce + mc' ≤ mc ∧ sl + ms' ≤ ms) (hna : As.length = na) (hrest : (rest.map fun v => v.category).sum ≤ 8)
    (kx : ∀ (E : String) (n' : Nat) (Ty' : Nat → xs_T) (I' : xI_T) (L' : xL_T) (F' : xF_T), px' E n' Ty' I' L' F' → XN Θ (ce + mc') (sl + ms') n' Ty' I' L' F' pc lv rest E)
    (kk : ∀ (v : Option Value) (n' : Nat) (Ty' : Nat → xs_T) (I' : xI_T) (L' : xL_T) (F' : xF_T), post' v n' Ty' I' L' F' → X Θ (ce + mc') (sl + ms') n' Ty' I' L' F' (pc + 3) lv (v.toList ++ rest)) : X Θ ce sl n Ty I L F pc lv (As.reverse ++ rest) := by
  obtain ⟨⟨p, l9, e, R, s, m, args, below, meth, c, Qx⟩, G9, own9, nL9, mc9, ms9, post9⟩ := Θ
  obtain ⟨⟨rfl, rfl, rfl, rfl, rfl, rfl, rfl⟩, hx, hb, hml, hown, hts, hKK, hK, hr, hlk, rfl, hnm, hsz, hmq⟩ := h
  intro H locs ls hw hS hl
  obtain ⟨hg, hd⟩ := g
  have hr0 : vx_Run p l e (xrm k mc ms) s m args below meth c H locs ce sl mc' ms' (F0 m pc ls (As.reverse ++ rest)) rest (xQ G own post' (As : List Value).toArray) (xX G own px') (xA G own) := vx_runS (rest := rest) ⟨hx, hb, hml, hown, hts⟩ hM (va_cwS (R := xrm k mc ms) na hts hg rfl rfl rfl hd ⟨hk.1, by show 8 + (nLy + 11) + 64 * k' ≤ 64 * k; omega⟩) ⟨xblind, fun U hU hW => ⟨rfl, by rw [hU]; exact hw, hKK.warm hW⟩⟩ rfl hna hl.1 (rfl : (F0 m pc ls (As.reverse ++ rest)).stack = _) (lv_room hrest) d hce
  intro T hT Xs
  rcases hr0 T hT Xs with ⟨v, st₀, t, T', L0, h0, X', hL, e1, e2, ⟨⟨v', n', Ty', I', L', F', hv, hp, hw'⟩, hz, hkp⟩, hst⟩ | ⟨q, st₀, t, T', L0, E, cell, h0, X', hL, e1, e2, ⟨⟨n', Ty', I', L', F', hp, hw'⟩, hz, hkp⟩, hce9, hcv, hcl, hst⟩
  · cases hv
    rw [h0] at hz hkp
    obtain ⟨t2, a1, b1⟩ := kk v n' Ty' I' L' F' hp T'.heap (locs ++ L0) ls (by rw [e1]; exact hw')
      ⟨Nat.le_trans hS.1 (by rw [e1]; exact hz), fun q h1 h2 => by rw [e1, hkp q (Nat.lt_of_lt_of_le h1 hS.1) h2]; exact hS.2.1 q h1 h2, fun q hq => by
        rcases List.mem_append.mp hq with hq | hq
        · exact hS.2.2 q hq
        · exact hL q hq⟩ hl T' rfl X'
    exact ⟨t2, hst t2 a1, b1⟩
  · rw [h0] at hz hkp
    obtain ⟨t2, a1, b1⟩ := kx E n' Ty' I' L' F' hp T'.heap (locs ++ L0) ls (by rw [e1]; exact hw')
      ⟨Nat.le_trans hS.1 (by rw [e1]; exact hz), fun q h1 h2 => by rw [e1, hkp q (Nat.lt_of_lt_of_le h1 hS.1) h2]; exact hS.2.1 q h1 h2, fun q hq => by
        rcases List.mem_append.mp hq with hq | hq
        · exact hS.2.2 q hq
        · exact hL q hq⟩ hl q cell (by rw [e1]; exact hce9) hcv hcl T' rfl X'
    exact ⟨t2, hst.trans a1, b1⟩
set_option maxHeartbeats 1000000 in
theorem x_callIX (h : XOk Θ l cls cc nL k mc ms ret nm G own post) {i : Nat} {y : MethodName} {cy : ByteArray} {nLy k' mc' ms' na idx : Nat} {As rest : List Value} {post' : xP_T} {px' : xPX} (hM : CgX l k' mc' ms' y cy nLy none G own (.ref (xb G + i) :: As) n Ty I L F post' px') (g : xci cls idx y cy nLy na) (d : decode cc pc = .ok (.invokespecial idx, 3)) (hk : k' < k ∧ nLy ≤ 45) (hce : ce + mc' ≤ mc ∧ sl + ms' ≤ ms) (hna : As.length = na) (hrest : (rest.map fun v => v.category).sum ≤ 8)
    (kx : ∀ (E : String) (n' : Nat) (Ty' : Nat → xs_T) (I' : xI_T) (L' : xL_T) (F' : xF_T), px' E n' Ty' I' L' F' → XN Θ (ce + mc') (sl + ms') n' Ty' I' L' F' pc lv rest E)
    (kk : ∀ (v : Option Value) (n' : Nat) (Ty' : Nat → xs_T) (I' : xI_T) (L' : xL_T) (F' : xF_T), post' v n' Ty' I' L' F' → X Θ (ce + mc') (sl + ms') n' Ty' I' L' F' (pc + 3) lv (v.toList ++ rest)) : X Θ ce sl n Ty I L F pc lv (As.reverse ++ .ref (xb G + i) :: rest) := by
  obtain ⟨⟨p, l9, e, R, s, m, args, below, meth, c, Qx⟩, G9, own9, nL9, mc9, ms9, post9⟩ := Θ
  obtain ⟨⟨rfl, rfl, rfl, rfl, rfl, rfl, rfl⟩, hx, hb, hml, hown, hts, hKK, hK, hr, hlk, rfl, hnm, hsz, hmq⟩ := h
  intro H locs ls hw hS hl
  obtain ⟨hg, hg1, hg2, hg3, hg4, hd⟩ := g
  have hr0 : vx_Run p l e (xrm k mc ms) s m args below meth c H locs ce sl mc' ms' (F0 m pc ls (As.reverse ++ .ref (xb G + i) :: rest)) rest (xQ G own post' (.ref (xb G + i) :: As : List Value).toArray) (xX G own px') (xA G own) := vx_runI (rest := rest) ⟨hx, hb, hml, hown, hts⟩ hM (cwI (R := xrm k mc ms) na hts hg rfl rfl rfl (hts _ hg1) (hts _ hg2) (hts _ hg3) hg4 hd ⟨hk.1, by show 8 + (nLy + 11) + 64 * k' ≤ 64 * k; omega⟩) ⟨xblind, fun U hU hW => ⟨rfl, by rw [hU]; exact hw, hKK.warm hW⟩⟩ rfl hna hl.1 (rfl : (F0 m pc ls (As.reverse ++ .ref (xb G + i) :: rest)).stack = _) (lv_room hrest) d hce
  intro T hT Xs
  rcases hr0 T hT Xs with ⟨v, st₀, t, T', L0, h0, X', hL, e1, e2, ⟨⟨v', n', Ty', I', L', F', hv, hp, hw'⟩, hz, hkp⟩, hst⟩ | ⟨q, st₀, t, T', L0, E, cell, h0, X', hL, e1, e2, ⟨⟨n', Ty', I', L', F', hp, hw'⟩, hz, hkp⟩, hce9, hcv, hcl, hst⟩
  · cases hv
    rw [h0] at hz hkp
    obtain ⟨t2, a1, b1⟩ := kk v n' Ty' I' L' F' hp T'.heap (locs ++ L0) ls (by rw [e1]; exact hw')
      ⟨Nat.le_trans hS.1 (by rw [e1]; exact hz), fun q h1 h2 => by rw [e1, hkp q (Nat.lt_of_lt_of_le h1 hS.1) h2]; exact hS.2.1 q h1 h2, fun q hq => by
        rcases List.mem_append.mp hq with hq | hq
        · exact hS.2.2 q hq
        · exact hL q hq⟩ hl T' rfl X'
    exact ⟨t2, hst t2 a1, b1⟩
  · rw [h0] at hz hkp
    obtain ⟨t2, a1, b1⟩ := kx E n' Ty' I' L' F' hp T'.heap (locs ++ L0) ls (by rw [e1]; exact hw')
      ⟨Nat.le_trans hS.1 (by rw [e1]; exact hz), fun q h1 h2 => by rw [e1, hkp q (Nat.lt_of_lt_of_le h1 hS.1) h2]; exact hS.2.1 q h1 h2, fun q hq => by
        rcases List.mem_append.mp hq with hq | hq
        · exact hS.2.2 q hq
        · exact hL q hq⟩ hl q cell (by rw [e1]; exact hce9) hcv hcl T' rfl X'
    exact ⟨t2, hst.trans a1, b1⟩
set_option maxHeartbeats 1000000 in
theorem x_callUX (h : XOk Θ l cls cc nL k mc ms ret nm G own post) {i ci : Nat} {owner : String} {x : MethodName} {y : MethodName} {cy : ByteArray} {nLy k' mc' ms' na idx : Nat} {rty : Option FieldType} {As rest : List Value} {post' : xP_T} {px' : xPX} (hM : CgX l k' mc' ms' y cy nLy rty G own (.ref (xb G + i) :: As) n Ty I L F post' px') (g : xcu cls idx ci owner x y cy nLy rty na) (hi : i < n) (ht : Ty i = some (.inl ci)) (d : decode cc pc = .ok (.invokevirtual idx, 3)) (hk : k' < k ∧ nLy ≤ 45) (hce : ce + mc' ≤ mc ∧ sl + ms' ≤ ms) (hna : As.length = na) (hrest : (rest.map fun v => v.category).sum ≤ 8)
    (kx : ∀ (E : String) (n' : Nat) (Ty' : Nat → xs_T) (I' : xI_T) (L' : xL_T) (F' : xF_T), px' E n' Ty' I' L' F' → XN Θ (ce + mc') (sl + ms') n' Ty' I' L' F' pc lv rest E)
    (kk : ∀ (v : Option Value) (n' : Nat) (Ty' : Nat → xs_T) (I' : xI_T) (L' : xL_T) (F' : xF_T), post' v n' Ty' I' L' F' → X Θ (ce + mc') (sl + ms') n' Ty' I' L' F' (pc + 3) lv (v.toList ++ rest)) : X Θ ce sl n Ty I L F pc lv (As.reverse ++ .ref (xb G + i) :: rest) := by
  obtain ⟨⟨p, l9, e, R, s, m, args, below, meth, c, Qx⟩, G9, own9, nL9, mc9, ms9, post9⟩ := Θ
  obtain ⟨⟨rfl, rfl, rfl, rfl, rfl, rfl, rfl⟩, hx, hb, hml, hown, hts, hKK, hK, hr, hlk, rfl, hnm, hsz, hmq⟩ := h
  intro H locs ls hw hS hl
  obtain ⟨C, T, N, hc, hg, ho1, ho2, hd, hdec⟩ := g
  have ok : ∀ w ∈ va_wsU cls idx C owner x y (ws_ y cy nLy rty), w.before args s = true := fun w h => hts w (hg w h).1
  have hG : GoodIn lw_all (ws_ y cy nLy rty) := fun w h => hg w (by unfold va_wsU; exact List.mem_append_right _ h)
  have hcode : Cond.code y cy nLy rty ∈ ws_ y cy nLy rty := List.mem_cons_self
  have hDec : va_Decl s ⟨owner, x.name, x.desc⟩ := by
    rcases hdec with e | ⟨q1, b0, m0, r0, q2⟩ | q
    · rw [← e]
      exact va_Decl.of (ok _ (by simp [va_wsU])) (hts _ (hG _ hcode).1)
    · exact va_Decl.of (hts _ q1) (hts _ q2)
    · exact va_Decl.abs (hKK.nwD q)
  have cw : va_CU (xrm k mc ms) s args cls C owner idx x y cy nLy rty (ws_ y cy nLy rty) (xrm k' mc' ms') mc' ms' na := ⟨⟨rfl, rfl, hk.1, by show 8 + (nLy + 11) + 64 * k' ≤ 64 * k; omega, pay_in hts hG, hcode⟩, hts _ (hG _ hcode).1, ok _ (by simp [va_wsU]), ⟨ho1, ho2⟩, fun sig h => by have h2 := hd; rw [h] at h2; exact (Option.some.inj h2).symm, ok _ (by simp [va_wsU]), ok _ (by simp [va_wsU]), hDec, ok _ (by simp [va_wsU]), ok _ (by simp [va_wsU])⟩
  have hr0 : vx_Run p l e (xrm k mc ms) s m args below meth c H locs ce sl mc' ms' (F0 m pc ls (As.reverse ++ .ref (xb G + i) :: rest)) rest (xQ G own post' (.ref (xb G + i) :: As : List Value).toArray) (xX G own px') (xA G own) := vx_runU (rest := rest) (g := F0 m pc ls (As.reverse ++ .ref (xb G + i) :: rest)) ⟨hx, hb, hml, hown, hts⟩ hM cw ⟨xblind, va_recv hK (hw.at hi (xcell_o ht)) hc (q0 := 0) rfl, fun U hU hW => ⟨rfl, by rw [hU]; exact hw, hKK.warm hW⟩⟩ rfl hna hl.1 rfl (lv_room hrest) d hce
  intro T hT Xs
  rcases hr0 T hT Xs with ⟨v, st₀, t, T', L0, h0, X', hL, e1, e2, ⟨⟨v', n', Ty', I', L', F', hv, hp, hw'⟩, hz, hkp⟩, hst⟩ | ⟨q, st₀, t, T', L0, E, cell, h0, X', hL, e1, e2, ⟨⟨n', Ty', I', L', F', hp, hw'⟩, hz, hkp⟩, hce9, hcv, hcl, hst⟩
  · cases hv
    rw [h0] at hz hkp
    obtain ⟨t2, a1, b1⟩ := kk v n' Ty' I' L' F' hp T'.heap (locs ++ L0) ls (by rw [e1]; exact hw')
      ⟨Nat.le_trans hS.1 (by rw [e1]; exact hz), fun q h1 h2 => by rw [e1, hkp q (Nat.lt_of_lt_of_le h1 hS.1) h2]; exact hS.2.1 q h1 h2, fun q hq => by
        rcases List.mem_append.mp hq with hq | hq
        · exact hS.2.2 q hq
        · exact hL q hq⟩ hl T' rfl X'
    exact ⟨t2, hst t2 a1, b1⟩
  · rw [h0] at hz hkp
    obtain ⟨t2, a1, b1⟩ := kx E n' Ty' I' L' F' hp T'.heap (locs ++ L0) ls (by rw [e1]; exact hw')
      ⟨Nat.le_trans hS.1 (by rw [e1]; exact hz), fun q h1 h2 => by rw [e1, hkp q (Nat.lt_of_lt_of_le h1 hS.1) h2]; exact hS.2.1 q h1 h2, fun q hq => by
        rcases List.mem_append.mp hq with hq | hq
        · exact hS.2.2 q hq
        · exact hL q hq⟩ hl q cell (by rw [e1]; exact hce9) hcv hcl T' rfl X'
    exact ⟨t2, hst.trans a1, b1⟩
end XR
