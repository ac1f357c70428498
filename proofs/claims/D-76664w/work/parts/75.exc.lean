/-! EXCEPTIONS: what the machine throws by itself -/
def cjs : Cond → List Cond
  | .and a b => cjs a ++ cjs b
  | c => [c]
theorem cjs_all {A : Array Value} {S : State} (c : Cond) (h : c.before A S = true) : ∀ w ∈ cjs c, w.before A S = true := by
  induction c using cjs.induct with
  | case1 a b ia ib =>
    intro w hw
    rw [Cond.before_and] at h
    have h2 := Bool.and_eq_true_iff.mp h
    rw [cjs] at hw
    rcases List.mem_append.mp hw with q | q
    · exact ia h2.1 w q
    · exact ib h2.2 w q
  | case2 c hc =>
    intro w hw
    have e : cjs c = [c] := by
      cases c <;> first | rfl | exact (hc _ _ rfl).elim
    rw [e] at hw
    rw [List.mem_singleton.mp hw]
    exact h
def isCD (w : Cond) : Bool := match w with | .castable _ _ => true | .declares _ => true | _ => false
def xwok (W : List Cond) : Bool := W.all (fun w => decide (w ∈ lw_tbl) && (goodWord w || (w.onTables && w.keeps) || isCD w))
theorem xKK.words {G : xG_T} {s : State} {args : Array Value} (h : xKK G s) (hts : ∀ w ∈ lw_all, w.before args s = true) {W : List Cond} (hW : xwok W = true) : ∀ w ∈ W, w.before args s = true := by
  intro w hw
  have h1 := List.all_eq_true.mp hW w hw
  simp only [Bool.and_eq_true, Bool.or_eq_true, decide_eq_true_eq] at h1
  obtain ⟨ht, (hg | ⟨ho, hk⟩) | hc⟩ := h1
  · exact hts w (lw_g ht hg)
  · exact Cond.onTables_warm (T := s) h.2 ho hk (h.1.2.1 w ht)
  · cases w with
    | castable a b => exact va_Nw.use rfl (h.nwC ht)
    | declares x => exact va_Nw.use rfl (h.nwD ht)
    | _ => simp [isCD] at hc
theorem xKK.nar {G : xG_T} {s : State} (h : xKK G s) {w : Cond} (hw : w ∈ cjs narrow_1) : w.before #[Value.ref G.2.2.2] G.2.2.1 = true := cjs_all _ (by
  have z := h.1.2.2.1
  rw [Cond.before_and] at z
  exact (Bool.and_eq_true_iff.mp z).2) w hw
theorem xKK.nc {G : xG_T} {s : State} (h : xKK G s) {C E : String} (hw : Cond.not (.castable C E) ∈ cjs narrow_1) : va_Nc C E s := va_Nc.moved h.2.alike (va_Nc.of (h.nar hw))
theorem xw_ini : Cond.initialized Bundle.tN ∈ lw_tbl := by decide +kernel
theorem xKK.zq {G : xG_T} {s : State} (h : xKK G s) (hsz : xb G ≤ s.heap.size) {own : Nat → Prop} {n : Nat} {Ty : Nat → xs_T} {I : xI_T} {L : xL_T} {F : xF_T} {H : Heap} {locs : List Loc} (hw : Wd G own n Ty I L F H) (hS : va_S (xA G own) s.heap H locs) {f d : String} (w1 : Cond.laysStatic Bundle.tN f d ∈ lw_tbl) (w2 : Cond.isRef (.static Bundle.tN f d) ∈ cjs narrow_1) : vx_Zq Bundle.tN f d (xA G own) s s.heap := by
  have z := vx_Zqof (A := xA G own) (h.1.2.1 _ w1) (h.1.2.1 _ xw_ini) (h.nar w2) (fun a ha => by
    rintro ⟨i, e, -⟩
    have e2 : a = G.2.2.1.heap.size + i := e
    omega)
  exact (vx_Zq.moved h.2.alike z).kept (fun a ha hn => (hS.2.1 a (Nat.lt_of_lt_of_le ha hsz) hn).symm.trans (hw.2.1 a ha))
theorem xw_l1 : Cond.laysStatic Bundle.tN "UNASSIGNED_STACK" Bundle.steD ∈ lw_tbl := by decide +kernel
theorem xw_l2 : Cond.laysStatic Bundle.tN "SUPPRESSED_SENTINEL" Bundle.listD ∈ lw_tbl := by decide +kernel
theorem xw_r1 : Cond.isRef (.static Bundle.tN "UNASSIGNED_STACK" Bundle.steD) ∈ cjs narrow_1 := by decide +kernel
theorem xw_r2 : Cond.isRef (.static Bundle.tN "SUPPRESSED_SENTINEL" Bundle.listD) ∈ cjs narrow_1 := by decide +kernel
/-- the cells that were there keep their shape; of the others nothing is said -/
def xtr (n : Nat) (Ty : Nat → xs_T) : Nat → xs_T := fun i => if i < n then Ty i else none
theorem xtr_l {n i : Nat} {Ty : Nat → xs_T} (h : i < n) : xtr n Ty i = Ty i := if_pos h
theorem Wd.grow {G : xG_T} {own : Nat → Prop} {n : Nat} {Ty : Nat → xs_T} {I : xI_T} {L : xL_T} {F : xF_T} {H H1 : Heap} (hw : Wd G own n Ty I L F H) (z : H.size ≤ H1.size) (oq : ∀ q : Nat, q < H.size → H1[q]? = H[q]?) : ∃ n' : Nat, n ≤ n' ∧ Wd G own n' (xtr n Ty) I L F H1 := by
  have hs := hw.1
  refine ⟨H1.size - xb G, by omega, by omega, fun q hq => (oq q (by omega)).trans (hw.2.1 q hq), fun i _ hT => ?_, fun i e _ he => ?_⟩
  · by_cases h : i < n
    · rw [xtr_l h] at hT
      exact hw.2.2.1 i h hT
    · exact absurd (if_neg h) hT
  · by_cases h : i < n
    · have e2 : xcell G (xtr n Ty) I L F i = xcell G Ty I L F i := by
        unfold xcell
        rw [xtr_l h]
      rw [e2] at he
      exact (hw.2.2.2 i e h he).kept (oq (xb G + i) (by omega))
    · have e2 : xcell G (xtr n Ty) I L F i = none := by
        unfold xcell
        rw [show xtr n Ty i = none from if_neg h]
      rw [e2] at he
      cases he
theorem va_S.grow {A : Nat → Prop} {H0 H H1 : Heap} {locs : List Loc} (h : va_S A H0 H locs) (z : H.size ≤ H1.size) (oq : ∀ q : Nat, q < H.size → H1[q]? = H[q]?) : va_S A H0 H1 locs := ⟨Nat.le_trans h.1 z, fun q h1 h2 => (oq q (Nat.lt_of_lt_of_le h1 h.1)).trans (h.2.1 q h1 h2), h.2.2⟩
/-- E is thrown over the frame at pc -/
def XN (Θ : xT_T) (ce sl n : Nat) (Ty : Nat → xs_T) (I : xI_T) (L : xL_T) (F : xF_T) (pc : Nat) (lv : List (Option Value)) (st : List Value) (E : String) : Prop := match Θ with
  | ((p, l, e, R, s, m, args, below, meth, c, Qx), G, own, nL, mc, ms, post) => ∀ (H : Heap) (locs : List Loc) (ls : Array Slot), Wd G own n Ty I L F H → va_S (xA G own) s.heap H locs → xloc ls nL lv → ∀ (q : Addr) (cell : Cell), H[q]? = some cell → cell.vm = .none → s.vm.findClass E = some cell.cls → vx_W p l e R s m args below meth c H locs ce sl Qx (F0 m pc ls st) q
def XNote (Θ : xT_T) (ce sl n : Nat) (Ty : Nat → xs_T) (I : xI_T) (L : xL_T) (F : xF_T) (pc : Nat) (lv : List (Option Value)) (st : List Value) (E text : String) : Prop := match Θ with
  | ((p, l, e, R, s, m, args, below, meth, c, Qx), G, own, nL, mc, ms, post) => ∀ (H : Heap) (locs : List Loc) (ls : Array Slot), Wd G own n Ty I L F H → va_S (xA G own) s.heap H locs → xloc ls nL lv → vx_Note p l e R s m args below meth c H locs ce sl Qx (F0 m pc ls st) E text
def XNoteN (Θ : xT_T) (ce sl n : Nat) (Ty : Nat → xs_T) (I : xI_T) (L : xL_T) (F : xF_T) (pc : Nat) (lv : List (Option Value)) (st : List Value) : Prop := match Θ with
  | ((p, l, e, R, s, m, args, below, meth, c, Qx), G, own, nL, mc, ms, post) => ∀ (H : Heap) (locs : List Loc) (ls : Array Slot), Wd G own n Ty I L F H → va_S (xA G own) s.heap H locs → xloc ls nL lv → vx_NoteN p l e R s m args below meth c H locs ce sl Qx (F0 m pc ls st)
/-- what is said of a class that the machine throws with a text -/
def xbun (E : String) (names : List String) : Prop := Bundle.fit E = true ∧ (∀ x ∈ names, Bundle.fit x = true) ∧ (E == "java/lang/StackOverflowError") = false ∧ (E == "java/lang/OutOfMemoryError") = false ∧ xwok (vx_atM E names) = true ∧ (∀ w ∈ vx_atM E names, vx_ot w = true) ∧ names.length ≤ 5
theorem xb_cce : xbun "java/lang/ClassCastException" ["java/lang/RuntimeException", "java/lang/Exception"] := ⟨by decide +kernel, by decide +kernel, by decide +kernel, by decide +kernel, by decide +kernel, by decide +kernel, by decide⟩
theorem xb_aio : xbun "java/lang/ArrayIndexOutOfBoundsException" ["java/lang/IndexOutOfBoundsException", "java/lang/RuntimeException", "java/lang/Exception"] := ⟨by decide +kernel, by decide +kernel, by decide +kernel, by decide +kernel, by decide +kernel, by decide +kernel, by decide⟩
theorem xb_nas : xbun "java/lang/NegativeArraySizeException" ["java/lang/RuntimeException", "java/lang/Exception"] := ⟨by decide +kernel, by decide +kernel, by decide +kernel, by decide +kernel, by decide +kernel, by decide +kernel, by decide⟩
theorem xw_npe : xwok (vx_atN 8) = true := by decide +kernel
theorem xw_npo : ∀ w ∈ vx_atN 8, vx_ot w = true := by decide +kernel
section XR
variable {Θ : xT_T} {l : Launch} {cls : String} {cc : ByteArray} {nL k mc ms : Nat} {ret : Option FieldType} {nm : String} {G : xG_T} {own : Nat → Prop} {post : xP_T} {ce sl n : Nat} {Ty : Nat → xs_T} {I : xI_T} {L : xL_T} {F : xF_T} {pc : Nat} {lv : List (Option Value)} {st : List Value}
theorem x_note (h : XOk Θ l cls cc nL k mc ms ret nm G own post) (hl : l.stackTraces = false) {E text : String} {names : List String} (hb : xbun E names) (htx : (text == notModelled) = false) (hnb : (stringBytes (stringToUtf16 text)).size ≤ 1000) (hk : 200 ≤ k) (hce : ce + 3 ≤ mc ∧ sl + 1010 ≤ ms) (hst : (st.map fun v => v.category).sum ≤ 8)
    (kk : ∀ n' : Nat, n ≤ n' → XN Θ (ce + 3) (sl + 1010) n' (xtr n Ty) I L F pc lv st E) : XNote Θ ce sl n Ty I L F pc lv st E text := by
  obtain ⟨⟨p, l9, e, R, s, m, args, below, meth, c, Qx⟩, G9, own9, nL9, mc9, ms9, post9⟩ := Θ
  obtain ⟨⟨rfl, rfl, rfl, rfl, rfl, rfl, rfl⟩, hx, hbt, hml, hown, hts, hKK, hK, hr, hlk, rfl, hnm, hsz, hmq⟩ := h
  intro H locs ls hw hS hloc
  obtain ⟨b1, b2, b3, b4, b5, b6, b7⟩ := hb
  refine vx_vm (names := names) (nb := 1000) (A := xA G own) hx hl b1 b2 b3 b4 (hKK.words hts b5) b6 (hKK.zq hsz hw hS xw_l1 xw_r1) (hKK.zq hsz hw hS xw_l2 xw_r2) hS (hloc.1.trans hml.symm) htx hnb (by omega) (by show names.length + 4 < k; omega) (by show _ ≤ 64 * k; omega) (by omega) hce.1 hce.2 hlk ?_
  intro H1 q9 cell z oq hS1 hc hv hcl
  obtain ⟨n', hn, hw1⟩ := hw.grow z oq
  exact kk n' hn H1 locs ls hw1 hS1 hloc q9 cell hc hv hcl
theorem x_noteN (h : XOk Θ l cls cc nL k mc ms ret nm G own post) (hl : l.stackTraces = false) (hk : 200 ≤ k) (hce : ce + 1 ≤ mc ∧ sl + 8 ≤ ms) (hst : (st.map fun v => v.category).sum ≤ 8)
    (kk : ∀ n' : Nat, n ≤ n' → XN Θ (ce + 1) (sl + 8) n' (xtr n Ty) I L F pc lv st "java/lang/NullPointerException") : XNoteN Θ ce sl n Ty I L F pc lv st := by
  obtain ⟨⟨p, l9, e, R, s, m, args, below, meth, c, Qx⟩, G9, own9, nL9, mc9, ms9, post9⟩ := Θ
  obtain ⟨⟨rfl, rfl, rfl, rfl, rfl, rfl, rfl⟩, hx, hbt, hml, hown, hts, hKK, hK, hr, hlk, rfl, hnm, hsz, hmq⟩ := h
  intro H locs ls hw hS hloc
  refine vx_npe (nb := 8) (A := xA G own) hx hl (hKK.words hts xw_npe) xw_npo (hKK.zq hsz hw hS xw_l1 xw_r1) (hKK.zq hsz hw hS xw_l2 xw_r2) hS (hloc.1.trans hml.symm) (by show 7 < k; omega) (by show _ ≤ 64 * k; omega) hce.1 hce.2 hlk ?_
  intro H1 q9 cell z oq hS1 hc hv hcl
  obtain ⟨n', hn, hw1⟩ := hw.grow z oq
  exact kk n' hn H1 locs ls hw1 hS1 hloc q9 cell hc hv hcl
end XR
