/-! THE X LAYER, second part: words that stand at the start, fields of nest mates, new cells, arrays of references, casts -/
theorem xKK.nwF {G : xG_T} {s : State} (h : xKK G s) {a : String} {i : Nat} {b f d o : String} (q : Cond.fieldLinkNest a i b f d o ∈ lw_tbl) : va_Nw (.fieldLinkNest a i b f d o) s := va_Nw.warmF h.2 (va_Nw.of rfl (h.1.2.1 _ q))
theorem xKK.nwM {G : xG_T} {s : State} (h : xKK G s) {a : String} {i : Nat} {x : MethodName} {o : String} (q : Cond.methodLinkNest a i x o ∈ lw_tbl) : va_Nw (.methodLinkNest a i x o) s := va_Nw.warmM h.2 (va_Nw.of rfl (h.1.2.1 _ q))
theorem xKK.nwC {G : xG_T} {s : State} (h : xKK G s) {a b : String} (q : Cond.castable a b ∈ lw_tbl) : va_Nw (.castable a b) s := va_Nw.warmC h.2 (va_Nw.of rfl (h.1.2.1 _ q))
theorem xKK.nwD {G : xG_T} {s : State} (h : xKK G s) {x : MethodName} (q : Cond.declares x ∈ lw_tbl) : va_Nw (.declares x) s := va_Nw.warmD h.2 (va_Nw.of rfl (h.1.2.1 _ q))
theorem xKK.ao {G : xG_T} {s : State} (h : xKK G s) {C : String} (q : Cond.arrayOver (.object C) ∈ lw_tbl) : va_AO C s := va_AO.moved h.2.alike (va_AO.of (h.1.2.1 _ q))
theorem xcls_of {s : State} {C : String} {c : ClassId} (h : s.vm.findClass C = some c) : ∃ k, s.vm.classes[c]? = some k := by
  obtain ⟨k, hk, -⟩ := Vm.findClass_spec h
  exact ⟨k, hk⟩
def nw1 {α : Type} (f : Nat → Nat → α) (n : Nat) (d : α) : Nat → Nat → α := fun a j => if a = n then d else f a j
def nwT (Ty : Nat → xs_T) (n : Nat) (s : xs_T) : Nat → xs_T := fun a => if a = n then s else Ty a
theorem nw1_ap {α : Type} (f : Nat → Nat → α) (n : Nat) (d : α) (a j : Nat) : nw1 f n d a j = if a = n then d else f a j := rfl
theorem nw1_r {α : Type} (f : Nat → Nat → α) (n : Nat) (d : α) {a : Nat} (h : a ≠ n) : nw1 f n d a = f a := by
  funext j
  exact if_neg h
theorem nwT_ap (Ty : Nat → xs_T) (n : Nat) (s : xs_T) (a : Nat) : nwT Ty n s a = if a = n then s else Ty a := rfl
theorem xcell_T {G : xG_T} {Ty Ty' : Nat → xs_T} {I I' : xI_T} {L L' : xL_T} {F F' : xF_T} {j : Nat} (h0 : Ty' j = Ty j) (h1 : I' j = I j) (h2 : L' j = L j) (h3 : F' j = F j) : xcell G Ty' I' L' F' j = xcell G Ty I L F j := by
  unfold xcell
  rw [h0, h1, h2, h3]
/-- one cell more -/
theorem Wd.push {G : xG_T} {own : Nat → Prop} {n : Nat} {Ty : Nat → xs_T} {I I' : xI_T} {L L' : xL_T} {F F' : xF_T} {H H1 : Heap} {s : xs_T} (hw : Wd G own n Ty I L F H) (z : H1.size = H.size + 1) (oq : ∀ q : Nat, q < H.size → H1[q]? = H[q]?) (ho : own n) (h1 : ∀ j, j ≠ n → I' j = I j) (h2 : ∀ j, j ≠ n → L' j = L j) (h3 : ∀ j, j ≠ n → F' j = F j) (hnew : ∀ e, xcell G (nwT Ty n s) I' L' F' n = some e → va_at G.1 xcl (xb G + n, e) H1) : Wd G own (n + 1) (nwT Ty n s) I' L' F' H1 := by
  obtain ⟨w1, w2, w3, w4⟩ := hw
  refine ⟨by omega, fun q hq => (oq q (by omega)).trans (w2 q hq), fun i hi ht => ?_, fun j e hj he => ?_⟩
  · by_cases hin : i = n
    · rw [hin]; exact ho
    · rw [nwT_ap, if_neg hin] at ht
      exact w3 i (by omega) ht
  · by_cases hjn : j = n
    · subst hjn
      exact hnew e he
    · rw [xcell_T (Ty := Ty) (I := I) (L := L) (F := F) (by rw [nwT_ap, if_neg hjn]) (h1 j hjn) (h2 j hjn) (h3 j hjn)] at he
      exact (w4 j e (by omega) he).kept (oq (xb G + j) (by omega))
theorem va_S.push {A : Nat → Prop} {H0 H H1 : Heap} {locs : List Loc} (h : va_S A H0 H locs) (z : H1.size = H.size + 1) (oq : ∀ q : Nat, q < H.size → H1[q]? = H[q]?) : va_S A H0 H1 locs :=
  ⟨by have := h.1; omega, fun q h1 h2 => (oq q (Nat.lt_of_lt_of_le h1 h.1)).trans (h.2.1 q h1 h2), h.2.2⟩
def xfgN (cls : String) (idx ci k : Nat) : Prop := ∃ (C : String) (T : u_T) (N : Nat) (o : String), xcl[ci]? = some (C, T, N) ∧ k < N ∧ (∀ w ∈ u_ws C T N, w ∈ lw_all) ∧ Cond.fieldLinkNest cls idx (T k).1 (T k).2.1 (T k).2.2.1 o ∈ lw_tbl ∧ (xfk ci).length = N
def xfpN (cls : String) (idx ci k : Nat) (ty : FieldType) : Prop := ∃ (C : String) (T : u_T) (N : Nat) (o : String) (ty0 : Nat → FieldType), xcl[ci]? = some (C, T, N) ∧ k < N ∧ (∀ w ∈ u_ws C T N, w ∈ lw_all) ∧ Cond.fieldLinkNest cls idx (T k).1 (T k).2.1 (T k).2.2.1 o ∈ lw_tbl ∧ (xfk ci).length = N ∧ (∀ k, k < N → parseFieldDescriptor (T k).2.2.1 = some (ty0 k)) ∧ (∀ a, a < N → ∀ b, b < N → a ≠ b → (T a).2.1 ≠ (T b).2.1) ∧ parseFieldDescriptor (T k).2.2.1 = some ty ∧ (T k).2.2.2 = false
section XS
variable {Θ : xT_T} {l : Launch} {cls : String} {cc : ByteArray} {nL k mc ms : Nat} {ret : Option FieldType} {nm : String} {G : xG_T} {own : Nat → Prop} {post : xP_T} {ce sl n : Nat} {Ty : Nat → xs_T} {I : xI_T} {L : xL_T} {F : xF_T} {pc : Nat} {lv : List (Option Value)} {st : List Value}
theorem x_getiN (h : XOk Θ l cls cc nL k mc ms ret nm G own post) {idx ci k0 i : Nat} (g : xfgN cls idx ci k0) (hi : i < n) (ht : Ty i = some (.inl ci)) (h0 : (xfk ci).getD k0 0 = 0) (d : decode cc pc = .ok (.getfield idx, 3)) (kk : X Θ ce sl n Ty I L F (pc + 3) lv (.int (I i k0) :: st)) : X Θ ce sl n Ty I L F pc lv (.ref (xb G + i) :: st) := by
  obtain ⟨⟨p, l9, e, R, s, m, args, below, meth, c, Qx⟩, G9, own9, nL9, mc9, ms9, post9⟩ := Θ
  obtain ⟨⟨rfl, rfl, rfl, rfl, rfl, rfl, rfl⟩, hx, hb, hml, hown, hts, hKK, hK, hr, hlk, rfl, hnm, hsz, hmq⟩ := h
  intro H locs ls hw hS hl
  obtain ⟨C, T, N, o, hc, hk, hin, hln, hlen⟩ := g
  exact va_getN hx hb hts hin hown hK (hw.at hi (xcell_o ht)) 0 rfl hc k0 hk (va_Nw.use rfl (hKK.nwF hln)) (fun _ q => q) (v := .int (I i k0)) (by rw [xobj_get (by omega), if_pos h0]) d (kk H locs ls hw hS hl)
theorem x_getaN (h : XOk Θ l cls cc nL k mc ms ret nm G own post) {idx ci k0 i : Nat} (g : xfgN cls idx ci k0) (hi : i < n) (ht : Ty i = some (.inl ci)) (h0 : ¬ (xfk ci).getD k0 0 = 0) (d : decode cc pc = .ok (.getfield idx, 3)) (kk : X Θ ce sl n Ty I L F (pc + 3) lv (xval (xb G) (F i k0) :: st)) : X Θ ce sl n Ty I L F pc lv (.ref (xb G + i) :: st) := by
  obtain ⟨⟨p, l9, e, R, s, m, args, below, meth, c, Qx⟩, G9, own9, nL9, mc9, ms9, post9⟩ := Θ
  obtain ⟨⟨rfl, rfl, rfl, rfl, rfl, rfl, rfl⟩, hx, hb, hml, hown, hts, hKK, hK, hr, hlk, rfl, hnm, hsz, hmq⟩ := h
  intro H locs ls hw hS hl
  obtain ⟨C, T, N, o, hc, hk, hin, hln, hlen⟩ := g
  exact va_getN hx hb hts hin hown hK (hw.at hi (xcell_o ht)) 0 rfl hc k0 hk (va_Nw.use rfl (hKK.nwF hln)) (fun _ q => q) (v := xval (xb G) (F i k0)) (by rw [xobj_get (by omega), if_neg h0]) d (kk H locs ls hw hS hl)
theorem x_getrN (h : XOk Θ l cls cc nL k mc ms ret nm G own post) {idx ci k0 i j : Nat} (g : xfgN cls idx ci k0) (hi : i < n) (ht : Ty i = some (.inl ci)) (h0 : ¬ (xfk ci).getD k0 0 = 0) (hj : F i k0 = some j) (d : decode cc pc = .ok (.getfield idx, 3)) (kk : X Θ ce sl n Ty I L F (pc + 3) lv (.ref (xb G + j) :: st)) : X Θ ce sl n Ty I L F pc lv (.ref (xb G + i) :: st) := by
  refine x_getaN h g hi ht h0 d ?_
  rw [hj]
  exact kk
theorem x_putiN (h : XOk Θ l cls cc nL k mc ms ret nm G own post) {idx ci k0 i : Nat} {ty : FieldType} {v : Int32} (g : xfpN cls idx ci k0 ty) (hi : i < n) (ht : Ty i = some (.inl ci)) (h0 : (xfk ci).getD k0 0 = 0) (hn : narrow ty (.int v) = .int v) (hfit : fits ty (.int v) = true) (d : decode cc pc = .ok (.putfield idx, 3)) (kk : ∀ I' : xI_T, I' = up2 I i k0 v → X Θ ce sl n Ty I' L F (pc + 3) lv st) : X Θ ce sl n Ty I L F pc lv (.int v :: .ref (xb G + i) :: st) := by
  obtain ⟨⟨p, l9, e, R, s, m, args, below, meth, c, Qx⟩, G9, own9, nL9, mc9, ms9, post9⟩ := Θ
  obtain ⟨⟨rfl, rfl, rfl, rfl, rfl, rfl, rfl⟩, hx, hb, hml, hown, hts, hKK, hK, hr, hlk, rfl, hnm, hsz, hmq⟩ := h
  intro H locs ls hw hS hl
  obtain ⟨C, T, N, o, ty0, hc, hk, hin, hln, hlen, hty, hnmx, hpt, hfin⟩ := g
  have hap := va_apart (own := cls) hts hin ty0 hty hnmx hK hc
  obtain ⟨r, h1, cell, q1, q2, q3, q4⟩ := hw.2.2.2 i _ hi (xcell_o ht)
  have hrr : r = (C, T, N) := Option.some.inj (h1.symm.trans hc)
  subst hrr
  obtain ⟨hSl, hfc, kC, hkC, hkind⟩ := hK.1 ci _ hc
  obtain ⟨cf, kf, fi, f, hif, hsl⟩ := hSl k0 hk
  have hlay := hts _ (hin _ (u_in_lay hk))
  unfold u_lay at hlay
  rw [if_neg (by rw [hfin]; decide)] at hlay
  have hst := (u_facts hfc hkC (u_lays hts hin hk) hif).1
  have h6 := u_store hfc hkC hkind hlay hif hpt hn hfit
  refine va_WputK hx hb (f := f) hown (va_Nw.use rfl (hKK.nwF hln)) hif hst (by rw [q2]; exact h6) q1 q3 (by rw [hsl]; exact k2_hasslot (q4 k0 hk)) rfl rfl d fun H' e1 e2 e3 => ?_
  rw [hsl] at e1
  refine kk _ rfl H' _ ls (hw.put e2 e3 (fun z hz => xcell_I (up2_r I v hz) rfl rfl) (fun e he => ?_)) (by rw [hsl]; exact hS.put e2 e3 (xA.in (hw.2.2.1 i hi (by rw [ht]; exact fun q => by cases q)))) hl
  rw [xcell_o ht] at he
  cases he
  refine ⟨_, hc, t_OB.to (V := updV (vp_V (xobj (xb G) (xfk ci) (I i) (F i))) k0 (.int v)) ⟨_, e1, q2, q3, t_set q4 hap hk _⟩ (fun z0 _ => ?_)⟩
  rw [vp_updV_set (by rw [xobj_len]; omega), xobj_setI h0, up2_self]
theorem x_putrN (h : XOk Θ l cls cc nL k mc ms ret nm G own post) {idx ci k0 i : Nat} {ty : FieldType} {j : Nat} (g : xfpN cls idx ci k0 ty) (hi : i < n) (ht : Ty i = some (.inl ci)) (h0 : ¬ (xfk ci).getD k0 0 = 0) (hn : narrow ty (.ref (xb G + j)) = .ref (xb G + j)) (hfit : fits ty (.ref (xb G + j)) = true) (d : decode cc pc = .ok (.putfield idx, 3)) (kk : ∀ F' : xF_T, F' = up2 F i k0 (some j) → X Θ ce sl n Ty I L F' (pc + 3) lv st) : X Θ ce sl n Ty I L F pc lv (.ref (xb G + j) :: .ref (xb G + i) :: st) := by
  obtain ⟨⟨p, l9, e, R, s, m, args, below, meth, c, Qx⟩, G9, own9, nL9, mc9, ms9, post9⟩ := Θ
  obtain ⟨⟨rfl, rfl, rfl, rfl, rfl, rfl, rfl⟩, hx, hb, hml, hown, hts, hKK, hK, hr, hlk, rfl, hnm, hsz, hmq⟩ := h
  intro H locs ls hw hS hl
  obtain ⟨C, T, N, o, ty0, hc, hk, hin, hln, hlen, hty, hnmx, hpt, hfin⟩ := g
  have hap := va_apart (own := cls) hts hin ty0 hty hnmx hK hc
  obtain ⟨r, h1, cell, q1, q2, q3, q4⟩ := hw.2.2.2 i _ hi (xcell_o ht)
  have hrr : r = (C, T, N) := Option.some.inj (h1.symm.trans hc)
  subst hrr
  obtain ⟨hSl, hfc, kC, hkC, hkind⟩ := hK.1 ci _ hc
  obtain ⟨cf, kf, fi, f, hif, hsl⟩ := hSl k0 hk
  have hlay := hts _ (hin _ (u_in_lay hk))
  unfold u_lay at hlay
  rw [if_neg (by rw [hfin]; decide)] at hlay
  have hst := (u_facts hfc hkC (u_lays hts hin hk) hif).1
  have h6 := u_store hfc hkC hkind hlay hif hpt hn hfit
  refine va_WputK hx hb (f := f) hown (va_Nw.use rfl (hKK.nwF hln)) hif hst (by rw [q2]; exact h6) q1 q3 (by rw [hsl]; exact k2_hasslot (q4 k0 hk)) rfl rfl d fun H' e1 e2 e3 => ?_
  rw [hsl] at e1
  refine kk _ rfl H' _ ls (hw.put e2 e3 (fun z hz => xcell_I rfl rfl (up2_r F (some j) hz)) (fun e he => ?_)) (by rw [hsl]; exact hS.put e2 e3 (xA.in (hw.2.2.1 i hi (by rw [ht]; exact fun q => by cases q)))) hl
  rw [xcell_o ht] at he
  cases he
  refine ⟨_, hc, t_OB.to (V := updV (vp_V (xobj (xb G) (xfk ci) (I i) (F i))) k0 (.ref (xb G + j))) ⟨_, e1, q2, q3, t_set q4 hap hk _⟩ (fun z0 _ => ?_)⟩
  rw [vp_updV_set (by rw [xobj_len]; omega), show Value.ref (xb G + j) = xval (xb G) (some j) from rfl, xobj_setF h0, up2_self]
theorem x_putNN (h : XOk Θ l cls cc nL k mc ms ret nm G own post) {idx ci k0 i : Nat} {ty : FieldType}  (g : xfpN cls idx ci k0 ty) (hi : i < n) (ht : Ty i = some (.inl ci)) (h0 : ¬ (xfk ci).getD k0 0 = 0) (hn : narrow ty (.null) = .null) (hfit : fits ty (.null) = true) (d : decode cc pc = .ok (.putfield idx, 3)) (kk : ∀ F' : xF_T, F' = up2 F i k0 none → X Θ ce sl n Ty I L F' (pc + 3) lv st) : X Θ ce sl n Ty I L F pc lv (.null :: .ref (xb G + i) :: st) := by
  obtain ⟨⟨p, l9, e, R, s, m, args, below, meth, c, Qx⟩, G9, own9, nL9, mc9, ms9, post9⟩ := Θ
  obtain ⟨⟨rfl, rfl, rfl, rfl, rfl, rfl, rfl⟩, hx, hb, hml, hown, hts, hKK, hK, hr, hlk, rfl, hnm, hsz, hmq⟩ := h
  intro H locs ls hw hS hl
  obtain ⟨C, T, N, o, ty0, hc, hk, hin, hln, hlen, hty, hnmx, hpt, hfin⟩ := g
  have hap := va_apart (own := cls) hts hin ty0 hty hnmx hK hc
  obtain ⟨r, h1, cell, q1, q2, q3, q4⟩ := hw.2.2.2 i _ hi (xcell_o ht)
  have hrr : r = (C, T, N) := Option.some.inj (h1.symm.trans hc)
  subst hrr
  obtain ⟨hSl, hfc, kC, hkC, hkind⟩ := hK.1 ci _ hc
  obtain ⟨cf, kf, fi, f, hif, hsl⟩ := hSl k0 hk
  have hlay := hts _ (hin _ (u_in_lay hk))
  unfold u_lay at hlay
  rw [if_neg (by rw [hfin]; decide)] at hlay
  have hst := (u_facts hfc hkC (u_lays hts hin hk) hif).1
  have h6 := u_store hfc hkC hkind hlay hif hpt hn hfit
  refine va_WputK hx hb (f := f) hown (va_Nw.use rfl (hKK.nwF hln)) hif hst (by rw [q2]; exact h6) q1 q3 (by rw [hsl]; exact k2_hasslot (q4 k0 hk)) rfl rfl d fun H' e1 e2 e3 => ?_
  rw [hsl] at e1
  refine kk _ rfl H' _ ls (hw.put e2 e3 (fun z hz => xcell_I rfl rfl (up2_r F none hz)) (fun e he => ?_)) (by rw [hsl]; exact hS.put e2 e3 (xA.in (hw.2.2.1 i hi (by rw [ht]; exact fun q => by cases q)))) hl
  rw [xcell_o ht] at he
  cases he
  refine ⟨_, hc, t_OB.to (V := updV (vp_V (xobj (xb G) (xfk ci) (I i) (F i))) k0 (.null)) ⟨_, e1, q2, q3, t_set q4 hap hk _⟩ (fun z0 _ => ?_)⟩
  rw [vp_updV_set (by rw [xobj_len]; omega), show Value.null = xval (xb G) none from rfl, xobj_setF h0, up2_self]
def xnw (cls : String) (idx ci N : Nat) : Prop := ∃ (C : String) (T : u_T) (M : Nat) (ty : Nat → FieldType), xcl[ci]? = some (C, T, M) ∧ (∀ w ∈ u_ws C T M, w ∈ lw_all) ∧ (∀ k, k < M → parseFieldDescriptor (T k).2.2.1 = some (ty k)) ∧ Cond.classLink cls idx C ∈ lw_all ∧ Cond.instantiable C N ∈ lw_all ∧ Cond.initialized C ∈ lw_all ∧ (xfk ci).length = M ∧ ∀ k, k < M → defaultValue (ty k) = if (xfk ci).getD k 0 = 0 then .int 0 else .null
theorem x_new (h : XOk Θ l cls cc nL k mc ms ret nm G own post) {idx ci N : Nat} (g : xnw cls idx ci N) (ho : own n) (hce : ce + 1 ≤ mc ∧ sl + N ≤ ms) (d : decode cc pc = .ok (.new idx, 3)) (kk : X Θ (ce + 1) (sl + N) (n + 1) (nwT Ty n (some (.inl ci))) (nw1 I n 0) L (nw1 F n none) (pc + 3) lv (.ref (xb G + n) :: st)) : X Θ ce sl n Ty I L F pc lv st := by
  obtain ⟨⟨p, l9, e, R, s, m, args, below, meth, c, Qx⟩, G9, own9, nL9, mc9, ms9, post9⟩ := Θ
  obtain ⟨⟨rfl, rfl, rfl, rfl, rfl, rfl, rfl⟩, hx, hb, hml, hown, hts, hKK, hK, hr, hlk, rfl, hnm, hsz, hmq⟩ := h
  intro H locs ls hw hS hl
  obtain ⟨C, T, M, ty, hc, hin, hty, hcl, hinst, hini, hlen, hdv⟩ := g
  have hKn := hK.1 ci _ hc
  refine W.newcK hx hb hown (hts _ hcl) (hts _ hinst) (hts _ hini) rfl d hce.1 hce.2 hKn.2.1 rfl fun H1 kC hkC e1 z1 o1 => ?_
  have hsz1 : H.size = xb G + n := hw.1
  rw [hsz1]
  refine kk H1 locs ls (hw.push z1 o1 ho (fun j hj => nw1_r I n 0 hj) (fun j _ => rfl) (fun j hj => nw1_r F n none hj) (fun e he => ?_)) (hS.push z1 o1) hl
  rw [xcell_o (by rw [nwT_ap, if_pos rfl])] at he
  cases he
  refine ⟨_, hc, (u_born ty hts hin hKn hkC (by rw [← hsz1]; exact e1) hty).to fun j hj => ?_⟩
  rw [hdv j hj]
  show _ = (xobj (xb G) (xfk ci) (nw1 I n 0 n) (nw1 F n none n)).getD j Value.null
  have hg : (xobj (xb G) (xfk ci) (nw1 I n 0 n) (nw1 F n none n)).getD j Value.null = if (xfk ci).getD j 0 = 0 then .int (nw1 I n 0 n j) else xval (xb G) (nw1 F n none n j) := by
    rw [List.getD_eq_getElem?_getD, xobj_get (by omega)]
    rfl
  rw [hg]
  by_cases h0 : (xfk ci).getD j 0 = 0
  · rw [if_pos h0, if_pos h0]
    simp [nw1_ap]
  · rw [if_neg h0, if_neg h0]
    simp [nw1_ap, xval, va_rf]
theorem x_newa0 (h : XOk Θ l cls cc nL k mc ms ret nm G own post) {v : Int32} {N : Nat} (q : Cond.arrayClass .int ∈ lw_all) (ho : own n) (hv : ¬ v < 0) (hN : v.toNatClampNeg = N) (hb8 : N * 8 ≤ 536870912) (hce : ce + 1 ≤ mc ∧ sl + N ≤ ms) (d : decode cc pc = .ok (.newarray .int, 2)) (kk : X Θ (ce + 1) (sl + N) (n + 1) (nwT Ty n (some (.inr (0, N)))) (nw1 I n 0) (nw1 L n 0) F (pc + 2) lv (.ref (xb G + n) :: st)) : X Θ ce sl n Ty I L F pc lv (.int v :: st) := by
  obtain ⟨⟨p, l9, e, R, s, m, args, below, meth, c, Qx⟩, G9, own9, nL9, mc9, ms9, post9⟩ := Θ
  obtain ⟨⟨rfl, rfl, rfl, rfl, rfl, rfl, rfl⟩, hx, hb, hml, hown, hts, hKK, hK, hr, hlk, rfl, hnm, hsz, hmq⟩ := h
  intro H locs ls hw hS hl
  refine va_newaK (atype := .int) hx hb (hts _ q) rfl d rfl hv hN (Nat.le_trans (Nat.mul_le_mul_left N (by decide)) hb8) hce.1 hce.2 rfl fun H1 cA e1 z1 o1 hAr hNm => ?_
  have hsz1 : H.size = xb G + n := hw.1
  rw [hsz1]
  have hcA : cA = G.2.1 0 := Option.some.inj (hNm.symm.trans (hK.2 0 _ rfl).2)
  subst hcA
  refine kk H1 locs ls (hw.push z1 o1 ho (fun j hj => nw1_r I n 0 hj) (fun j hj => nw1_r L n 0 hj) (fun j _ => rfl) (fun e he => ?_)) (hS.push z1 o1) hl
  rw [xcell_a (by rw [nwT_ap, if_pos rfl])] at he
  cases he
  rw [xarr_I (by decide)]
  show H1[xb G + n]? = some (vp_cell _ _)
  rw [vp_cell_i, ← hsz1, e1]
  congr 2
  funext j
  simp [nw1_ap]
  try rfl
theorem x_newa1 (h : XOk Θ l cls cc nL k mc ms ret nm G own post) {v : Int32} {N : Nat} (q : Cond.arrayClass .byte ∈ lw_all) (ho : own n) (hv : ¬ v < 0) (hN : v.toNatClampNeg = N) (hb8 : N * 8 ≤ 536870912) (hce : ce + 1 ≤ mc ∧ sl + N ≤ ms) (d : decode cc pc = .ok (.newarray .byte, 2)) (kk : X Θ (ce + 1) (sl + N) (n + 1) (nwT Ty n (some (.inr (1, N)))) (nw1 I n 0) (nw1 L n 0) F (pc + 2) lv (.ref (xb G + n) :: st)) : X Θ ce sl n Ty I L F pc lv (.int v :: st) := by
  obtain ⟨⟨p, l9, e, R, s, m, args, below, meth, c, Qx⟩, G9, own9, nL9, mc9, ms9, post9⟩ := Θ
  obtain ⟨⟨rfl, rfl, rfl, rfl, rfl, rfl, rfl⟩, hx, hb, hml, hown, hts, hKK, hK, hr, hlk, rfl, hnm, hsz, hmq⟩ := h
  intro H locs ls hw hS hl
  refine va_newaK (atype := .byte) hx hb (hts _ q) rfl d rfl hv hN (Nat.le_trans (Nat.mul_le_mul_left N (by decide)) hb8) hce.1 hce.2 rfl fun H1 cA e1 z1 o1 hAr hNm => ?_
  have hsz1 : H.size = xb G + n := hw.1
  rw [hsz1]
  have hcA : cA = G.2.1 1 := Option.some.inj (hNm.symm.trans (hK.2 1 _ rfl).2)
  subst hcA
  refine kk H1 locs ls (hw.push z1 o1 ho (fun j hj => nw1_r I n 0 hj) (fun j hj => nw1_r L n 0 hj) (fun j _ => rfl) (fun e he => ?_)) (hS.push z1 o1) hl
  rw [xcell_a (by rw [nwT_ap, if_pos rfl])] at he
  cases he
  rw [xarr_I (by decide)]
  show H1[xb G + n]? = some (vp_cell _ _)
  rw [vp_cell_i, ← hsz1, e1]
  congr 2
  funext j
  simp [nw1_ap]
  try rfl
theorem x_newa2 (h : XOk Θ l cls cc nL k mc ms ret nm G own post) {v : Int32} {N : Nat} (q : Cond.arrayClass .short ∈ lw_all) (ho : own n) (hv : ¬ v < 0) (hN : v.toNatClampNeg = N) (hb8 : N * 8 ≤ 536870912) (hce : ce + 1 ≤ mc ∧ sl + N ≤ ms) (d : decode cc pc = .ok (.newarray .short, 2)) (kk : X Θ (ce + 1) (sl + N) (n + 1) (nwT Ty n (some (.inr (2, N)))) (nw1 I n 0) (nw1 L n 0) F (pc + 2) lv (.ref (xb G + n) :: st)) : X Θ ce sl n Ty I L F pc lv (.int v :: st) := by
  obtain ⟨⟨p, l9, e, R, s, m, args, below, meth, c, Qx⟩, G9, own9, nL9, mc9, ms9, post9⟩ := Θ
  obtain ⟨⟨rfl, rfl, rfl, rfl, rfl, rfl, rfl⟩, hx, hb, hml, hown, hts, hKK, hK, hr, hlk, rfl, hnm, hsz, hmq⟩ := h
  intro H locs ls hw hS hl
  refine va_newaK (atype := .short) hx hb (hts _ q) rfl d rfl hv hN (Nat.le_trans (Nat.mul_le_mul_left N (by decide)) hb8) hce.1 hce.2 rfl fun H1 cA e1 z1 o1 hAr hNm => ?_
  have hsz1 : H.size = xb G + n := hw.1
  rw [hsz1]
  have hcA : cA = G.2.1 2 := Option.some.inj (hNm.symm.trans (hK.2 2 _ rfl).2)
  subst hcA
  refine kk H1 locs ls (hw.push z1 o1 ho (fun j hj => nw1_r I n 0 hj) (fun j hj => nw1_r L n 0 hj) (fun j _ => rfl) (fun e he => ?_)) (hS.push z1 o1) hl
  rw [xcell_a (by rw [nwT_ap, if_pos rfl])] at he
  cases he
  rw [xarr_I (by decide)]
  show H1[xb G + n]? = some (vp_cell _ _)
  rw [vp_cell_i, ← hsz1, e1]
  congr 2
  funext j
  simp [nw1_ap]
  try rfl
theorem x_newa3 (h : XOk Θ l cls cc nL k mc ms ret nm G own post) {v : Int32} {N : Nat} (q : Cond.arrayClass .boolean ∈ lw_all) (ho : own n) (hv : ¬ v < 0) (hN : v.toNatClampNeg = N) (hb8 : N * 8 ≤ 536870912) (hce : ce + 1 ≤ mc ∧ sl + N ≤ ms) (d : decode cc pc = .ok (.newarray .boolean, 2)) (kk : X Θ (ce + 1) (sl + N) (n + 1) (nwT Ty n (some (.inr (3, N)))) (nw1 I n 0) (nw1 L n 0) F (pc + 2) lv (.ref (xb G + n) :: st)) : X Θ ce sl n Ty I L F pc lv (.int v :: st) := by
  obtain ⟨⟨p, l9, e, R, s, m, args, below, meth, c, Qx⟩, G9, own9, nL9, mc9, ms9, post9⟩ := Θ
  obtain ⟨⟨rfl, rfl, rfl, rfl, rfl, rfl, rfl⟩, hx, hb, hml, hown, hts, hKK, hK, hr, hlk, rfl, hnm, hsz, hmq⟩ := h
  intro H locs ls hw hS hl
  refine va_newaK (atype := .boolean) hx hb (hts _ q) rfl d rfl hv hN (Nat.le_trans (Nat.mul_le_mul_left N (by decide)) hb8) hce.1 hce.2 rfl fun H1 cA e1 z1 o1 hAr hNm => ?_
  have hsz1 : H.size = xb G + n := hw.1
  rw [hsz1]
  have hcA : cA = G.2.1 3 := Option.some.inj (hNm.symm.trans (hK.2 3 _ rfl).2)
  subst hcA
  refine kk H1 locs ls (hw.push z1 o1 ho (fun j hj => nw1_r I n 0 hj) (fun j hj => nw1_r L n 0 hj) (fun j _ => rfl) (fun e he => ?_)) (hS.push z1 o1) hl
  rw [xcell_a (by rw [nwT_ap, if_pos rfl])] at he
  cases he
  rw [xarr_I (by decide)]
  show H1[xb G + n]? = some (vp_cell _ _)
  rw [vp_cell_i, ← hsz1, e1]
  congr 2
  funext j
  simp [nw1_ap]
  try rfl
theorem x_newa4 (h : XOk Θ l cls cc nL k mc ms ret nm G own post) {v : Int32} {N : Nat} (q : Cond.arrayClass .long ∈ lw_all) (ho : own n) (hv : ¬ v < 0) (hN : v.toNatClampNeg = N) (hb8 : N * 8 ≤ 536870912) (hce : ce + 1 ≤ mc ∧ sl + N ≤ ms) (d : decode cc pc = .ok (.newarray .long, 2)) (kk : X Θ (ce + 1) (sl + N) (n + 1) (nwT Ty n (some (.inr (4, N)))) (nw1 I n 0) (nw1 L n 0) F (pc + 2) lv (.ref (xb G + n) :: st)) : X Θ ce sl n Ty I L F pc lv (.int v :: st) := by
  obtain ⟨⟨p, l9, e, R, s, m, args, below, meth, c, Qx⟩, G9, own9, nL9, mc9, ms9, post9⟩ := Θ
  obtain ⟨⟨rfl, rfl, rfl, rfl, rfl, rfl, rfl⟩, hx, hb, hml, hown, hts, hKK, hK, hr, hlk, rfl, hnm, hsz, hmq⟩ := h
  intro H locs ls hw hS hl
  refine va_newaK (atype := .long) hx hb (hts _ q) rfl d rfl hv hN (Nat.le_trans (Nat.mul_le_mul_left N (by decide)) hb8) hce.1 hce.2 rfl fun H1 cA e1 z1 o1 hAr hNm => ?_
  have hsz1 : H.size = xb G + n := hw.1
  rw [hsz1]
  have hcA : cA = G.2.1 4 := Option.some.inj (hNm.symm.trans (hK.2 4 _ rfl).2)
  subst hcA
  refine kk H1 locs ls (hw.push z1 o1 ho (fun j hj => nw1_r I n 0 hj) (fun j hj => nw1_r L n 0 hj) (fun j _ => rfl) (fun e he => ?_)) (hS.push z1 o1) hl
  rw [xcell_a (by rw [nwT_ap, if_pos rfl])] at he
  cases he
  rw [xarr_L]
  show H1[xb G + n]? = some (vp_cell _ _)
  rw [vp_cell_l, ← hsz1, e1]
  congr 2
  funext j
  simp [nw1_ap]
  try rfl
theorem x_newq5 (h : XOk Θ l cls cc nL k mc ms ret nm G own post) {idx : Nat} {v : Int32} {N : Nat} (q : Cond.classLink cls idx "ThirdAfter$Buyer" ∈ lw_all) (qo : Cond.arrayOver (.object "ThirdAfter$Buyer") ∈ lw_tbl) (ho : own n) (hv : ¬ v < 0) (hN : v.toNatClampNeg = N) (hb8 : N * 4 ≤ 536870912) (hce : ce + 1 ≤ mc ∧ sl + N ≤ ms) (d : decode cc pc = .ok (.anewarray idx, 3)) (kk : X Θ (ce + 1) (sl + N) (n + 1) (nwT Ty n (some (.inr (5, N)))) I L (nw1 F n none) (pc + 3) lv (.ref (xb G + n) :: st)) : X Θ ce sl n Ty I L F pc lv (.int v :: st) := by
  obtain ⟨⟨p, l9, e, R, s, m, args, below, meth, c, Qx⟩, G9, own9, nL9, mc9, ms9, post9⟩ := Θ
  obtain ⟨⟨rfl, rfl, rfl, rfl, rfl, rfl, rfl⟩, hx, hb, hml, hown, hts, hKK, hK, hr, hlk, rfl, hnm, hsz, hmq⟩ := h
  intro H locs ls hw hS hl
  subst hN
  have hsz1 : H.size = xb G + n := hw.1
  refine W.anew hx hb hown (hts _ q) (va_AO.use (hKK.ao qo)) rfl d rfl hv hb8 hce.1 hce.2 fun cA kA comp f1 f2 f3 f4 => ?_
  have hcA : cA = G.2.1 5 := by
    obtain ⟨kA', comp', k1, k2, k3, k4⟩ := (hK.2 5 _ rfl).2
    exact Option.some.inj (f1.symm.trans k4)
  subst hcA
  generalize hH1 : H.push ({ cls := _, slots := Array.replicate v.toNatClampNeg .null, vm := .none } : Cell) = H1
  have z1 : H1.size = H.size + 1 := by rw [← hH1, Array.size_push]
  have e1 : H1[H.size]? = some (arrV (G.2.1 5) v.toNatClampNeg (fun _ => .null)) := by rw [← hH1, Array.getElem?_push_size, ← arrV_new]
  have o1 : ∀ q : Nat, q < H.size → H1[q]? = H[q]? := fun q hq => by rw [← hH1, Array.getElem?_push, if_neg (Nat.ne_of_lt hq)]
  rw [hsz1]
  refine kk H1 locs ls (hw.push z1 o1 ho (fun j _ => rfl) (fun j _ => rfl) (fun j hj => nw1_r F n none hj) (fun e he => ?_)) (hS.push z1 o1) hl
  rw [xcell_a (by rw [nwT_ap, if_pos rfl])] at he
  cases he
  rw [xarr_F (by decide)]
  show H1[xb G + n]? = some (vp_cell _ _)
  rw [vp_cell_q, ← hsz1, e1]
  congr 2
  funext j
  simp [nw1_ap, va_rf]
theorem x_newq6 (h : XOk Θ l cls cc nL k mc ms ret nm G own post) {idx : Nat} {v : Int32} {N : Nat} (q : Cond.classLink cls idx "ThirdAfter$Change" ∈ lw_all) (qo : Cond.arrayOver (.object "ThirdAfter$Change") ∈ lw_tbl) (ho : own n) (hv : ¬ v < 0) (hN : v.toNatClampNeg = N) (hb8 : N * 4 ≤ 536870912) (hce : ce + 1 ≤ mc ∧ sl + N ≤ ms) (d : decode cc pc = .ok (.anewarray idx, 3)) (kk : X Θ (ce + 1) (sl + N) (n + 1) (nwT Ty n (some (.inr (6, N)))) I L (nw1 F n none) (pc + 3) lv (.ref (xb G + n) :: st)) : X Θ ce sl n Ty I L F pc lv (.int v :: st) := by
  obtain ⟨⟨p, l9, e, R, s, m, args, below, meth, c, Qx⟩, G9, own9, nL9, mc9, ms9, post9⟩ := Θ
  obtain ⟨⟨rfl, rfl, rfl, rfl, rfl, rfl, rfl⟩, hx, hb, hml, hown, hts, hKK, hK, hr, hlk, rfl, hnm, hsz, hmq⟩ := h
  intro H locs ls hw hS hl
  subst hN
  have hsz1 : H.size = xb G + n := hw.1
  refine W.anew hx hb hown (hts _ q) (va_AO.use (hKK.ao qo)) rfl d rfl hv hb8 hce.1 hce.2 fun cA kA comp f1 f2 f3 f4 => ?_
  have hcA : cA = G.2.1 6 := by
    obtain ⟨kA', comp', k1, k2, k3, k4⟩ := (hK.2 6 _ rfl).2
    exact Option.some.inj (f1.symm.trans k4)
  subst hcA
  generalize hH1 : H.push ({ cls := _, slots := Array.replicate v.toNatClampNeg .null, vm := .none } : Cell) = H1
  have z1 : H1.size = H.size + 1 := by rw [← hH1, Array.size_push]
  have e1 : H1[H.size]? = some (arrV (G.2.1 6) v.toNatClampNeg (fun _ => .null)) := by rw [← hH1, Array.getElem?_push_size, ← arrV_new]
  have o1 : ∀ q : Nat, q < H.size → H1[q]? = H[q]? := fun q hq => by rw [← hH1, Array.getElem?_push, if_neg (Nat.ne_of_lt hq)]
  rw [hsz1]
  refine kk H1 locs ls (hw.push z1 o1 ho (fun j _ => rfl) (fun j _ => rfl) (fun j hj => nw1_r F n none hj) (fun e he => ?_)) (hS.push z1 o1) hl
  rw [xcell_a (by rw [nwT_ap, if_pos rfl])] at he
  cases he
  rw [xarr_F (by decide)]
  show H1[xb G + n]? = some (vp_cell _ _)
  rw [vp_cell_q, ← hsz1, e1]
  congr 2
  funext j
  simp [nw1_ap, va_rf]
theorem x_newq7 (h : XOk Θ l cls cc nL k mc ms ret nm G own post) {idx : Nat} {v : Int32} {N : Nat} (q : Cond.classLink cls idx "ThirdAfter$Market" ∈ lw_all) (qo : Cond.arrayOver (.object "ThirdAfter$Market") ∈ lw_tbl) (ho : own n) (hv : ¬ v < 0) (hN : v.toNatClampNeg = N) (hb8 : N * 4 ≤ 536870912) (hce : ce + 1 ≤ mc ∧ sl + N ≤ ms) (d : decode cc pc = .ok (.anewarray idx, 3)) (kk : X Θ (ce + 1) (sl + N) (n + 1) (nwT Ty n (some (.inr (7, N)))) I L (nw1 F n none) (pc + 3) lv (.ref (xb G + n) :: st)) : X Θ ce sl n Ty I L F pc lv (.int v :: st) := by
  obtain ⟨⟨p, l9, e, R, s, m, args, below, meth, c, Qx⟩, G9, own9, nL9, mc9, ms9, post9⟩ := Θ
  obtain ⟨⟨rfl, rfl, rfl, rfl, rfl, rfl, rfl⟩, hx, hb, hml, hown, hts, hKK, hK, hr, hlk, rfl, hnm, hsz, hmq⟩ := h
  intro H locs ls hw hS hl
  subst hN
  have hsz1 : H.size = xb G + n := hw.1
  refine W.anew hx hb hown (hts _ q) (va_AO.use (hKK.ao qo)) rfl d rfl hv hb8 hce.1 hce.2 fun cA kA comp f1 f2 f3 f4 => ?_
  have hcA : cA = G.2.1 7 := by
    obtain ⟨kA', comp', k1, k2, k3, k4⟩ := (hK.2 7 _ rfl).2
    exact Option.some.inj (f1.symm.trans k4)
  subst hcA
  generalize hH1 : H.push ({ cls := _, slots := Array.replicate v.toNatClampNeg .null, vm := .none } : Cell) = H1
  have z1 : H1.size = H.size + 1 := by rw [← hH1, Array.size_push]
  have e1 : H1[H.size]? = some (arrV (G.2.1 7) v.toNatClampNeg (fun _ => .null)) := by rw [← hH1, Array.getElem?_push_size, ← arrV_new]
  have o1 : ∀ q : Nat, q < H.size → H1[q]? = H[q]? := fun q hq => by rw [← hH1, Array.getElem?_push, if_neg (Nat.ne_of_lt hq)]
  rw [hsz1]
  refine kk H1 locs ls (hw.push z1 o1 ho (fun j _ => rfl) (fun j _ => rfl) (fun j hj => nw1_r F n none hj) (fun e he => ?_)) (hS.push z1 o1) hl
  rw [xcell_a (by rw [nwT_ap, if_pos rfl])] at he
  cases he
  rw [xarr_F (by decide)]
  show H1[xb G + n]? = some (vp_cell _ _)
  rw [vp_cell_q, ← hsz1, e1]
  congr 2
  funext j
  simp [nw1_ap, va_rf]
theorem x_newq9 (h : XOk Θ l cls cc nL k mc ms ret nm G own post) {idx : Nat} {v : Int32} {N : Nat} (q : Cond.classLink cls idx "ThirdAfter$Latch" ∈ lw_all) (qo : Cond.arrayOver (.object "ThirdAfter$Latch") ∈ lw_tbl) (ho : own n) (hv : ¬ v < 0) (hN : v.toNatClampNeg = N) (hb8 : N * 4 ≤ 536870912) (hce : ce + 1 ≤ mc ∧ sl + N ≤ ms) (d : decode cc pc = .ok (.anewarray idx, 3)) (kk : X Θ (ce + 1) (sl + N) (n + 1) (nwT Ty n (some (.inr (9, N)))) I L (nw1 F n none) (pc + 3) lv (.ref (xb G + n) :: st)) : X Θ ce sl n Ty I L F pc lv (.int v :: st) := by
  obtain ⟨⟨p, l9, e, R, s, m, args, below, meth, c, Qx⟩, G9, own9, nL9, mc9, ms9, post9⟩ := Θ
  obtain ⟨⟨rfl, rfl, rfl, rfl, rfl, rfl, rfl⟩, hx, hb, hml, hown, hts, hKK, hK, hr, hlk, rfl, hnm, hsz, hmq⟩ := h
  intro H locs ls hw hS hl
  subst hN
  have hsz1 : H.size = xb G + n := hw.1
  refine W.anew hx hb hown (hts _ q) (va_AO.use (hKK.ao qo)) rfl d rfl hv hb8 hce.1 hce.2 fun cA kA comp f1 f2 f3 f4 => ?_
  have hcA : cA = G.2.1 9 := by
    obtain ⟨kA', comp', k1, k2, k3, k4⟩ := (hK.2 9 _ rfl).2
    exact Option.some.inj (f1.symm.trans k4)
  subst hcA
  generalize hH1 : H.push ({ cls := _, slots := Array.replicate v.toNatClampNeg .null, vm := .none } : Cell) = H1
  have z1 : H1.size = H.size + 1 := by rw [← hH1, Array.size_push]
  have e1 : H1[H.size]? = some (arrV (G.2.1 9) v.toNatClampNeg (fun _ => .null)) := by rw [← hH1, Array.getElem?_push_size, ← arrV_new]
  have o1 : ∀ q : Nat, q < H.size → H1[q]? = H[q]? := fun q hq => by rw [← hH1, Array.getElem?_push, if_neg (Nat.ne_of_lt hq)]
  rw [hsz1]
  refine kk H1 locs ls (hw.push z1 o1 ho (fun j _ => rfl) (fun j _ => rfl) (fun j hj => nw1_r F n none hj) (fun e he => ?_)) (hS.push z1 o1) hl
  rw [xcell_a (by rw [nwT_ap, if_pos rfl])] at he
  cases he
  rw [xarr_F (by decide)]
  show H1[xb G + n]? = some (vp_cell _ _)
  rw [vp_cell_q, ← hsz1, e1]
  congr 2
  funext j
  simp [nw1_ap, va_rf]
theorem x_newq10 (h : XOk Θ l cls cc nL k mc ms ret nm G own post) {idx : Nat} {v : Int32} {N : Nat} (q : Cond.classLink cls idx "ThirdAfter$Held" ∈ lw_all) (qo : Cond.arrayOver (.object "ThirdAfter$Held") ∈ lw_tbl) (ho : own n) (hv : ¬ v < 0) (hN : v.toNatClampNeg = N) (hb8 : N * 4 ≤ 536870912) (hce : ce + 1 ≤ mc ∧ sl + N ≤ ms) (d : decode cc pc = .ok (.anewarray idx, 3)) (kk : X Θ (ce + 1) (sl + N) (n + 1) (nwT Ty n (some (.inr (10, N)))) I L (nw1 F n none) (pc + 3) lv (.ref (xb G + n) :: st)) : X Θ ce sl n Ty I L F pc lv (.int v :: st) := by
  obtain ⟨⟨p, l9, e, R, s, m, args, below, meth, c, Qx⟩, G9, own9, nL9, mc9, ms9, post9⟩ := Θ
  obtain ⟨⟨rfl, rfl, rfl, rfl, rfl, rfl, rfl⟩, hx, hb, hml, hown, hts, hKK, hK, hr, hlk, rfl, hnm, hsz, hmq⟩ := h
  intro H locs ls hw hS hl
  subst hN
  have hsz1 : H.size = xb G + n := hw.1
  refine W.anew hx hb hown (hts _ q) (va_AO.use (hKK.ao qo)) rfl d rfl hv hb8 hce.1 hce.2 fun cA kA comp f1 f2 f3 f4 => ?_
  have hcA : cA = G.2.1 10 := by
    obtain ⟨kA', comp', k1, k2, k3, k4⟩ := (hK.2 10 _ rfl).2
    exact Option.some.inj (f1.symm.trans k4)
  subst hcA
  generalize hH1 : H.push ({ cls := _, slots := Array.replicate v.toNatClampNeg .null, vm := .none } : Cell) = H1
  have z1 : H1.size = H.size + 1 := by rw [← hH1, Array.size_push]
  have e1 : H1[H.size]? = some (arrV (G.2.1 10) v.toNatClampNeg (fun _ => .null)) := by rw [← hH1, Array.getElem?_push_size, ← arrV_new]
  have o1 : ∀ q : Nat, q < H.size → H1[q]? = H[q]? := fun q hq => by rw [← hH1, Array.getElem?_push, if_neg (Nat.ne_of_lt hq)]
  rw [hsz1]
  refine kk H1 locs ls (hw.push z1 o1 ho (fun j _ => rfl) (fun j _ => rfl) (fun j hj => nw1_r F n none hj) (fun e he => ?_)) (hS.push z1 o1) hl
  rw [xcell_a (by rw [nwT_ap, if_pos rfl])] at he
  cases he
  rw [xarr_F (by decide)]
  show H1[xb G + n]? = some (vp_cell _ _)
  rw [vp_cell_q, ← hsz1, e1]
  congr 2
  funext j
  simp [nw1_ap, va_rf]
theorem x_aald (h : XOk Θ l cls cc nL k mc ms ret nm G own post) {i t N : Nat} {j : Int32} {ty : FieldType} (hi : i < n) (ht : Ty i = some (.inr (t, N))) (h5 : 5 ≤ t) (hty : (xtys G.2.1)[t]? = some (G.2.1 t, ty)) (href : ty.isReference = true) (hin : vp_in j N) (a : Nat) (ha : j.toNatClampNeg = a) (d : decode cc pc = .ok (.aaload, 1)) (kk : X Θ ce sl n Ty I L F (pc + 1) lv (xval (xb G) (F i a) :: st)) : X Θ ce sl n Ty I L F pc lv (.int j :: .ref (xb G + i) :: st) := by
  obtain ⟨⟨p, l9, e, R, s, m, args, below, meth, c, Qx⟩, G9, own9, nL9, mc9, ms9, post9⟩ := Θ
  obtain ⟨⟨rfl, rfl, rfl, rfl, rfl, rfl, rfl⟩, hx, hb, hml, hown, hts, hKK, hK, hr, hlk, rfl, hnm, hsz, hmq⟩ := h
  subst ha
  intro H locs ls hw hS hl
  have hlt : j.toNatClampNeg < N := Nat.not_le.mp fun q => hin (Or.inr q)
  have hc0 := hw.arF hi ht h5
  exact W.aald (v := va_rf ((F i j.toNatClampNeg).map (fun x => xb G + x))) (ty := ty) hx hb hc0 ((hK.2 t _ hty).1 N (fun j => va_rf ((F i j).map (fun x => xb G + x)))) href (fun q => by cases q) (by show ¬ (j < 0 ∨ (arrV _ _ _).slots.size ≤ _); rw [arrV_size]; exact hin) (by show (arrV _ _ _).slots[_]? = _; rw [arrV_read _ _ hlt]) rfl rfl d (kk H locs ls hw hS hl)
theorem x_aaldr (h : XOk Θ l cls cc nL k mc ms ret nm G own post) {i t N q : Nat} {j : Int32} {ty : FieldType} (hi : i < n) (ht : Ty i = some (.inr (t, N))) (h5 : 5 ≤ t) (hty : (xtys G.2.1)[t]? = some (G.2.1 t, ty)) (href : ty.isReference = true) (hin : vp_in j N) (a : Nat) (ha : j.toNatClampNeg = a) (hq : F i a = some q) (d : decode cc pc = .ok (.aaload, 1)) (kk : X Θ ce sl n Ty I L F (pc + 1) lv (.ref (xb G + q) :: st)) : X Θ ce sl n Ty I L F pc lv (.int j :: .ref (xb G + i) :: st) := by
  refine x_aald h hi ht h5 hty href hin a ha d ?_
  rw [hq]
  exact kk
theorem x_aast (h : XOk Θ l cls cc nL k mc ms ret nm G own post) {i t N q cq : Nat} {j : Int32} {E C : String} {T : u_T} {M : Nat} (hi : i < n) (ht : Ty i = some (.inr (t, N))) (h5 : 5 ≤ t) (hty : (xtys G.2.1)[t]? = some (G.2.1 t, .object E)) (hq : q < n) (htq : Ty q = some (.inl cq)) (hcl : xcl[cq]? = some (C, T, M)) (hca : C = E ∨ Cond.castable C E ∈ lw_tbl) (hin : vp_in j N) (a : Nat) (ha : j.toNatClampNeg = a) (d : decode cc pc = .ok (.aastore, 1)) (kk : ∀ F' : xF_T, F' = up2 F i a (some q) → X Θ ce sl n Ty I L F' (pc + 1) lv st) : X Θ ce sl n Ty I L F pc lv (.ref (xb G + q) :: .int j :: .ref (xb G + i) :: st) := by
  obtain ⟨⟨p, l9, e, R, s, m, args, below, meth, c, Qx⟩, G9, own9, nL9, mc9, ms9, post9⟩ := Θ
  obtain ⟨⟨rfl, rfl, rfl, rfl, rfl, rfl, rfl⟩, hx, hb, hml, hown, hts, hKK, hK, hr, hlk, rfl, hnm, hsz, hmq⟩ := h
  subst ha
  intro H locs ls hw hS hl
  have hlt : j.toNatClampNeg < N := Nat.not_le.mp fun q => hin (Or.inr q)
  have h0 : ¬ j < 0 := fun q => hin (Or.inl q)
  have hc0 := hw.arF hi ht h5
  obtain ⟨r', hr', cellV, g1, g2, g3, -⟩ := hw.2.2.2 q _ hq (xcell_o htq)
  have hrr : r' = (C, T, M) := Option.some.inj (hr'.symm.trans hcl)
  subst hrr
  have hcls := (hK.1 cq _ hcl).2
  obtain ⟨kA, comp, k1, k2, k3, -⟩ := (hK.2 t _ hty).2
  obtain ⟨kC, hkC, -⟩ := hcls.2
  have hass : s.vm.assignable (G.1.1 cq) comp = true := by
    rcases hca with e | w
    · subst e
      have e2 : comp = G.1.1 cq := Option.some.inj (k3.symm.trans hcls.1)
      rw [e2]
      exact va_asg _ _
    · obtain ⟨c0, t1, f1, f2, f3⟩ := Cond.castable_spec (va_Nw.use (A := #[]) rfl (hKK.nwC w))
      have e2 : c0 = G.1.1 cq := Option.some.inj (f1.symm.trans hcls.1)
      have e3 : t1 = comp := Option.some.inj (f2.symm.trans k3)
      rw [← e2, ← e3]
      exact f3
  obtain ⟨kcomp, hkcomp⟩ := xcls_of k3
  refine W.aast hx hb hc0 (fun q h => by cases h) (fun h => by cases h) k1 k2 rfl hkcomp ⟨h0, by show _ < (arrV _ _ _).slots.size; rw [arrV_size]; exact hlt⟩ g1 (fun q h => by rw [g3] at h; cases h) (by rw [g2]; exact hkC) (by rw [g2]; exact hass) rfl rfl d fun H1 e z oq => ?_
  refine kk _ rfl H1 _ ls (hw.put z oq (fun j hj => xcell_I rfl rfl (up2_r F _ hj)) (fun e' he => ?_)) (hS.put z oq (xA.in (hw.2.2.1 i hi (by rw [ht]; exact fun q => by cases q)))) hl
  rw [xcell_a ht, xarr_F h5] at he
  cases he
  show H1[xb G + i]? = some (vp_cell _ _)
  rw [vp_cell_q, e, arrV_store]
  congr 2
  funext x
  by_cases hx2 : x = j.toNatClampNeg
  · subst hx2
    simp [updV, up2, va_rf]
  · simp [updV, up2, hx2]
theorem x_aastN (h : XOk Θ l cls cc nL k mc ms ret nm G own post) {i t N : Nat} {j : Int32} {E : String} (hi : i < n) (ht : Ty i = some (.inr (t, N))) (h5 : 5 ≤ t) (hty : (xtys G.2.1)[t]? = some (G.2.1 t, .object E)) (hin : vp_in j N) (a : Nat) (ha : j.toNatClampNeg = a) (d : decode cc pc = .ok (.aastore, 1)) (kk : ∀ F' : xF_T, F' = up2 F i a none → X Θ ce sl n Ty I L F' (pc + 1) lv st) : X Θ ce sl n Ty I L F pc lv (.null :: .int j :: .ref (xb G + i) :: st) := by
  obtain ⟨⟨p, l9, e, R, s, m, args, below, meth, c, Qx⟩, G9, own9, nL9, mc9, ms9, post9⟩ := Θ
  obtain ⟨⟨rfl, rfl, rfl, rfl, rfl, rfl, rfl⟩, hx, hb, hml, hown, hts, hKK, hK, hr, hlk, rfl, hnm, hsz, hmq⟩ := h
  subst ha
  intro H locs ls hw hS hl
  have hc0 := hw.arF hi ht h5
  refine va_WaastN (C := E) hx hb hc0 ((hK.2 t _ hty).1 N (fun j => va_rf ((F i j).map (fun x => xb G + x)))) (fun h => by cases h) (by show ¬ (j < 0 ∨ (arrV _ _ _).slots.size ≤ _); rw [arrV_size]; exact hin) rfl rfl d fun H1 e z oq => ?_
  refine kk _ rfl H1 _ ls (hw.put z oq (fun j hj => xcell_I rfl rfl (up2_r F _ hj)) (fun e' he => ?_)) (hS.put z oq (xA.in (hw.2.2.1 i hi (by rw [ht]; exact fun q => by cases q)))) hl
  rw [xcell_a ht, xarr_F h5] at he
  cases he
  show H1[xb G + i]? = some (vp_cell _ _)
  rw [vp_cell_q, e, arrV_store]
  congr 2
  funext x
  by_cases hx2 : x = j.toNatClampNeg
  · subst hx2
    simp [updV, up2, va_rf]
  · simp [updV, up2, hx2]
theorem x_castN (h : XOk Θ l cls cc nL k mc ms ret nm G own post) {idx : Nat} (d : decode cc pc = .ok (.checkcast idx, 3)) (kk : X Θ ce sl n Ty I L F (pc + 3) lv (.null :: st)) : X Θ ce sl n Ty I L F pc lv (.null :: st) := by
  obtain ⟨⟨p, l9, e, R, s, m, args, below, meth, c, Qx⟩, G9, own9, nL9, mc9, ms9, post9⟩ := Θ
  obtain ⟨⟨rfl, rfl, rfl, rfl, rfl, rfl, rfl⟩, hx, hb, hml, hown, hts, hKK, hK, hr, hlk, rfl, hnm, hsz, hmq⟩ := h
  intro H locs ls hw hS hl
  exact lv_castN hx hb d (kk H locs ls hw hS hl)
theorem x_cast (h : XOk Θ l cls cc nL k mc ms ret nm G own post) {idx i ci M : Nat} {E C : String} {T : u_T} (q : Cond.classLink cls idx E ∈ lw_all) (hi : i < n) (ht : Ty i = some (.inl ci)) (hcl : xcl[ci]? = some (C, T, M)) (qc : Cond.castable C E ∈ lw_tbl) (d : decode cc pc = .ok (.checkcast idx, 3)) (kk : X Θ ce sl n Ty I L F (pc + 3) lv (.ref (xb G + i) :: st)) : X Θ ce sl n Ty I L F pc lv (.ref (xb G + i) :: st) := by
  obtain ⟨⟨p, l9, e, R, s, m, args, below, meth, c, Qx⟩, G9, own9, nL9, mc9, ms9, post9⟩ := Θ
  obtain ⟨⟨rfl, rfl, rfl, rfl, rfl, rfl, rfl⟩, hx, hb, hml, hown, hts, hKK, hK, hr, hlk, rfl, hnm, hsz, hmq⟩ := h
  intro H locs ls hw hS hl
  exact va_castY hx hb hown (hts _ q) (hKK.nwC qc) (va_recv hK (hw.at hi (xcell_o ht)) hcl (q0 := 0) rfl) d (kk H locs ls hw hS hl)
end XS
