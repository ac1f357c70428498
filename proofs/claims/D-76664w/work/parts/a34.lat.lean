/-! LATCHES: classes whose fields share names: apart by their owners -/
theorem xff_class {s : State} {cls name desc : String} {c i : Nat} {k : Class} {f : Field} (h : s.fieldFound? cls name desc = some (c, k, i, f)) : s.vm.classes[c]? = some k := by
  simp only [State.fieldFound?, Option.bind_eq_bind, Option.bind_eq_some_iff, Option.pure_def, Option.some.injEq, Prod.mk.injEq, Prod.exists] at h
  obtain ⟨t, ht, c₀, hc₀, c₁, i₁, hl, k₁, hk₁, f₁, hf₁, rfl, rfl, rfl, rfl⟩ := h
  exact hk₁
theorem xap_own {args : Array Value} {s : State} {C O f d O' f' d' : String} (h : (Cond.laysFinal C O f d).before args s = true) (h' : (Cond.laysFinal C O' f' d').before args s = true) {cf kf fi fd cf' kf' fi' fd'} (hi : s.fieldFound? O f d = some (cf, kf, fi, fd)) (hi' : s.fieldFound? O' f' d' = some (cf', kf', fi', fd')) (hne : f ≠ f' ∨ O ≠ O') {t t' : FieldType} (hd : parseFieldDescriptor d = some t) (hd' : parseFieldDescriptor d' = some t') : fd.slot ≠ fd'.slot := by
  obtain ⟨c, k, c1, k1, i1, f1, r1, r2, r3, -, -, -, r7, -, dd, q1, q2, q3, -⟩ := Cond.laysFinal_spec h
  cases hi.symm.trans r3
  obtain ⟨c', k', c1', k1', i1', f1', s1, s2, s3, -, -, -, s7, -, dd', p1, p2, p3, -⟩ := Cond.laysFinal_spec h'
  cases hi'.symm.trans s3
  cases r1.symm.trans s1
  intro e
  rw [e] at q1
  cases q1.symm.trans p1
  rcases hne with y | y
  · exact y ((State.fieldFound?_type hi hd).1.symm.trans (q3.symm.trans (p3.trans (State.fieldFound?_type hi' hd').1)))
  · obtain ⟨ka, a1, a2⟩ := Vm.findClass_spec r7
    obtain ⟨kb, b1, b2⟩ := Vm.findClass_spec s7
    cases a1.symm.trans (xff_class hi)
    cases b1.symm.trans (xff_class hi')
    exact y (a2.symm.trans (q2.symm.trans (p2.trans b2)))
def xfpO (cls : String) (idx ci k : Nat) (ty : FieldType) : Prop := ∃ (C : String) (T : u_T) (N : Nat) (ty0 : Nat → FieldType), xcl[ci]? = some (C, T, N) ∧ k < N ∧ (∀ w ∈ u_ws C T N, w ∈ lw_all) ∧ Cond.fieldLink cls idx (T k).1 (T k).2.1 (T k).2.2.1 ∈ lw_all ∧ (xfk ci).length = N ∧ (∀ k, k < N → parseFieldDescriptor (T k).2.2.1 = some (ty0 k)) ∧ (∀ a, a < N → ∀ b, b < N → a ≠ b → (T a).2.1 ≠ (T b).2.1 ∨ (T a).1 ≠ (T b).1) ∧ parseFieldDescriptor (T k).2.2.1 = some ty ∧ (∀ a, a < N → (T a).2.2.2 = true)
theorem xapart {D : va_G} {tys : List (ClassId × FieldType)} {s : State} {args : Array Value} {C : String} {T : u_T} {N ci : Nat} {Ts : List Cond} (hts : ∀ w ∈ Ts, w.before args s = true) (hin : ∀ w ∈ u_ws C T N, w ∈ Ts) (ty : Nat → FieldType) (hty : ∀ k, k < N → parseFieldDescriptor (T k).2.2.1 = some (ty k)) (hne : ∀ a, a < N → ∀ b, b < N → a ≠ b → (T a).2.1 ≠ (T b).2.1 ∨ (T a).1 ≠ (T b).1) (hall : ∀ a, a < N → (T a).2.2.2 = true) (hK : va_K D xcl tys s) (hc : xcl[ci]? = some (C, T, N)) : ∀ x y, x < N → y < N → x ≠ y → (D.2 ci) x ≠ (D.2 ci) y := by
  intro x y hx hy hxy
  obtain ⟨hS, -⟩ := hK.1 ci _ hc
  obtain ⟨ca, ka, ia, fa, hia, ea⟩ := hS x hx
  obtain ⟨cb, kb, ib, fb, hib, eb⟩ := hS y hy
  rw [← ea, ← eb]
  have lay : ∀ k : Nat, k < N → (Cond.laysFinal C (T k).1 (T k).2.1 (T k).2.2.1).before args s = true := fun k hk => by
    have h := hts _ (hin _ (u_in_lay hk))
    unfold u_lay at h
    rw [if_pos (hall k hk)] at h
    exact h
  exact xap_own (lay x hx) (lay y hy) hia hib (hne x hx y hy hxy) (hty x hx) (hty y hy)
section XR
variable {Θ : xT_T} {l : Launch} {cls : String} {cc : ByteArray} {nL k mc ms : Nat} {ret : Option FieldType} {nm : String} {G : xG_T} {own : Nat → Prop} {post : xP_T} {ce sl n : Nat} {Ty : Nat → xs_T} {I : xI_T} {L : xL_T} {F : xF_T} {pc : Nat} {lv : List (Option Value)} {st : List Value}
theorem x_putiFO (h : XOk Θ l cls cc nL k mc ms ret nm G own post) {idx ci k0 i : Nat} {ty : FieldType} {v : Int32} (g : xfpO cls idx ci k0 ty) (hi : i < n) (ht : Ty i = some (.inl ci)) (h0 : (xfk ci).getD k0 0 = 0) (hin2 : nm = "<init>") (hdecl : ∀ C T N, xcl[ci]? = some (C, T, N) → (T k0).1 = cls) (hn : narrow ty (.int v) = .int v) (hfit : fits ty (.int v) = true) (d : decode cc pc = .ok (.putfield idx, 3)) (kk : ∀ I' : xI_T, I' = up2 I i k0 v → X Θ ce sl n Ty I' L F (pc + 3) lv st) : X Θ ce sl n Ty I L F pc lv (.int v :: .ref (xb G + i) :: st) := by
  obtain ⟨⟨p, l9, e, R, s, m, args, below, meth, c, Qx⟩, G9, own9, nL9, mc9, ms9, post9⟩ := Θ
  obtain ⟨⟨rfl, rfl, rfl, rfl, rfl, rfl, rfl⟩, hx, hb, hml, hown, hts, hKK, hK, hr, hlk, rfl, hnm, hsz, hmq⟩ := h
  intro H locs ls hw hS hl
  obtain ⟨C, T, N, ty0, hc, hk, hin, hln, hlen, hty, hnmx, hpt, hall⟩ := g
  have hap := xapart hts hin ty0 hty hnmx hall hK hc
  have hfin := hall k0 hk
  obtain ⟨r, h1, cell, q1, q2, q3, q4⟩ := hw.2.2.2 i _ hi (xcell_o ht)
  have hrr : r = (C, T, N) := Option.some.inj (h1.symm.trans hc)
  subst hrr
  obtain ⟨hSl, hfc, kC, hkC, hkind⟩ := hK.1 ci _ hc
  obtain ⟨cf, kf, fi, f, hif, hsl⟩ := hSl k0 hk
  have hlay := hts _ (hin _ (u_in_lay hk))
  unfold u_lay at hlay
  rw [if_pos hfin] at hlay
  have hst := (u_facts hfc hkC (u_lays hts hin hk) hif).1
  have hcf : m.cls = cf := by
    obtain ⟨_, _, c', _, _, _, -, -, hf', -, -, -, hown2, -⟩ := Cond.laysFinal_spec hlay
    have e1 : c' = cf := by have := hif.symm.trans hf'; simp at this; exact this.1.symm
    rw [hdecl C T N hc] at hown2
    rw [← e1]; exact Option.some.inj (hown.symm.trans hown2)
  have h6 := u_fits hfc hkC hkind (Or.inr hlay) hif hpt hn hfit
  refine W.putFinK hx hb hown (hts _ hln) hif hst hcf (hnm.trans hin2) (by rw [q2]; exact h6) q1 q3 (by rw [hsl]; exact k2_hasslot (q4 k0 hk)) rfl rfl d fun H' e1 e2 e3 => ?_
  rw [hsl] at e1
  refine kk  _ rfl H' _ ls (hw.put e2 e3 (fun z hz => xcell_I (up2_r I v hz) rfl rfl) (fun e he => ?_)) (by rw [hsl]; exact hS.put e2 e3 (xA.in (hw.2.2.1 i hi (by rw [ht]; exact fun q => by cases q)))) hl
  rw [xcell_o ht] at he
  cases he
  refine ⟨_, hc, t_OB.to (V := updV (vp_V (xobj (xb G) (xfk ci) (I i) (F i))) k0 (.int v)) ⟨_, e1, q2, q3, t_set q4 hap hk _⟩ (fun z0 _ => ?_)⟩
  rw [vp_updV_set (by rw [xobj_len]; omega), xobj_setI h0, up2_self]
theorem x_putrFO (h : XOk Θ l cls cc nL k mc ms ret nm G own post) {idx ci k0 i : Nat} {ty : FieldType} {j : Nat} (g : xfpO cls idx ci k0 ty) (hi : i < n) (ht : Ty i = some (.inl ci)) (h0 : ¬ (xfk ci).getD k0 0 = 0) (hin2 : nm = "<init>") (hdecl : ∀ C T N, xcl[ci]? = some (C, T, N) → (T k0).1 = cls) (hn : narrow ty (.ref (xb G + j)) = .ref (xb G + j)) (hfit : fits ty (.ref (xb G + j)) = true) (d : decode cc pc = .ok (.putfield idx, 3)) (kk : ∀ F' : xF_T, F' = up2 F i k0 (some j) → X Θ ce sl n Ty I L F' (pc + 3) lv st) : X Θ ce sl n Ty I L F pc lv (.ref (xb G + j) :: .ref (xb G + i) :: st) := by
  obtain ⟨⟨p, l9, e, R, s, m, args, below, meth, c, Qx⟩, G9, own9, nL9, mc9, ms9, post9⟩ := Θ
  obtain ⟨⟨rfl, rfl, rfl, rfl, rfl, rfl, rfl⟩, hx, hb, hml, hown, hts, hKK, hK, hr, hlk, rfl, hnm, hsz, hmq⟩ := h
  intro H locs ls hw hS hl
  obtain ⟨C, T, N, ty0, hc, hk, hin, hln, hlen, hty, hnmx, hpt, hall⟩ := g
  have hap := xapart hts hin ty0 hty hnmx hall hK hc
  have hfin := hall k0 hk
  obtain ⟨r, h1, cell, q1, q2, q3, q4⟩ := hw.2.2.2 i _ hi (xcell_o ht)
  have hrr : r = (C, T, N) := Option.some.inj (h1.symm.trans hc)
  subst hrr
  obtain ⟨hSl, hfc, kC, hkC, hkind⟩ := hK.1 ci _ hc
  obtain ⟨cf, kf, fi, f, hif, hsl⟩ := hSl k0 hk
  have hlay := hts _ (hin _ (u_in_lay hk))
  unfold u_lay at hlay
  rw [if_pos hfin] at hlay
  have hst := (u_facts hfc hkC (u_lays hts hin hk) hif).1
  have hcf : m.cls = cf := by
    obtain ⟨_, _, c', _, _, _, -, -, hf', -, -, -, hown2, -⟩ := Cond.laysFinal_spec hlay
    have e1 : c' = cf := by have := hif.symm.trans hf'; simp at this; exact this.1.symm
    rw [hdecl C T N hc] at hown2
    rw [← e1]; exact Option.some.inj (hown.symm.trans hown2)
  have h6 := u_fits hfc hkC hkind (Or.inr hlay) hif hpt hn hfit
  refine W.putFinK hx hb hown (hts _ hln) hif hst hcf (hnm.trans hin2) (by rw [q2]; exact h6) q1 q3 (by rw [hsl]; exact k2_hasslot (q4 k0 hk)) rfl rfl d fun H' e1 e2 e3 => ?_
  rw [hsl] at e1
  refine kk  _ rfl H' _ ls (hw.put e2 e3 (fun z hz => xcell_I rfl rfl (up2_r F (some j) hz)) (fun e he => ?_)) (by rw [hsl]; exact hS.put e2 e3 (xA.in (hw.2.2.1 i hi (by rw [ht]; exact fun q => by cases q)))) hl
  rw [xcell_o ht] at he
  cases he
  refine ⟨_, hc, t_OB.to (V := updV (vp_V (xobj (xb G) (xfk ci) (I i) (F i))) k0 (.ref (xb G + j))) ⟨_, e1, q2, q3, t_set q4 hap hk _⟩ (fun z0 _ => ?_)⟩
  rw [vp_updV_set (by rw [xobj_len]; omega), show Value.ref (xb G + j) = xval (xb G) (some j) from rfl, xobj_setF h0, up2_self]
end XR
