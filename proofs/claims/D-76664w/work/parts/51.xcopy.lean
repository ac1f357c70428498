/-! THE X LAYER, third part: System.arraycopy, Object's constructor, contracts that say less than all -/
def xty : Nat → FieldType := fun t => match t with
  | 0 => .int
  | 1 => .byte
  | 2 => .short
  | _ => .boolean
theorem xty_at {DA : Nat → ClassId} : ∀ t : Nat, t < 4 → (xtys DA)[t]? = some (DA t, xty t)
  | 0, _ => rfl
  | 1, _ => rfl
  | 2, _ => rfl
  | 3, _ => rfl
  | t + 4, h => absurd h (by omega)
theorem xty_p : ∀ t : Nat, refKind (xty t) = false
  | 0 => rfl
  | 1 => rfl
  | 2 => rfl
  | _ + 3 => rfl
section XC
variable {Θ : xT_T} {l : Launch} {cls : String} {cc : ByteArray} {nL k mc ms : Nat} {ret : Option FieldType} {nm : String} {G : xG_T} {own : Nat → Prop} {post : xP_T} {ce sl n : Nat} {Ty : Nat → xs_T} {I : xI_T} {L : xL_T} {F : xF_T} {pc : Nat} {lv : List (Option Value)} {st : List Value}
set_option maxHeartbeats 1000000 in
theorem x_copyI (h : XOk Θ l cls cc nL k mc ms ret nm G own post) {idx i0 i1 t N0 N1 : Nat} {sp dp m9 : Int32} (q : Jvm.Cond.methodLink cls idx arraycopyName ∈ lw_all) (hi0 : i0 < n) (ht0 : Ty i0 = some (.inr (t, N0))) (hi1 : i1 < n) (ht1 : Ty i1 = some (.inr (t, N1))) (h4 : t < 4) (h1 : ¬ sp < 0) (h2 : ¬ dp < 0) (h3 : ¬ m9 < 0) (h5 : sp.toNatClampNeg + m9.toNatClampNeg ≤ N0) (h6 : dp.toNatClampNeg + m9.toNatClampNeg ≤ N1) (hfit : ∀ j : Nat, j < m9.toNatClampNeg → fits (xty t) (.int (I i0 (sp.toNatClampNeg + j))) = true) (hk : 2 ≤ k) (hrest : (st.map fun v => v.category).sum ≤ 8) (d : decode cc pc = .ok (.invokestatic idx, 3))
    (kk : ∀ I' : xI_T, I' = cpy2 I i1 dp.toNatClampNeg i0 sp.toNatClampNeg m9.toNatClampNeg → X Θ ce sl n Ty I' L F (pc + 3) lv st) : X Θ ce sl n Ty I L F pc lv (.int m9 :: .int dp :: .ref (xb G + i1) :: .int sp :: .ref (xb G + i0) :: st) := by
  obtain ⟨⟨p, l9, e, R, s, m, args, below, meth, c, Qx⟩, G9, own9, nL9, mc9, ms9, post9⟩ := Θ
  obtain ⟨⟨rfl, rfl, rfl, rfl, rfl, rfl, rfl⟩, hx, hb, hml, hown, hts, hKK, hK, hr, hlk, rfl, hnm, hsz, hmq⟩ := h
  intro H locs ls hw hS hl T hT X9
  have nn : ∀ z : Int32, ¬ z < 0 → z.toInt = (z.toNatClampNeg : Int) := by
    intro z hz
    have hz0 : (0 : Int) ≤ z.toInt := by
      have := Int32.not_lt.mp hz
      simpa using Int32.le_iff_toInt_le.mp this
    show z.toInt = ((z.toInt.toNat : Nat) : Int)
    omega
  have hc0 : H[xb G + i0]? = some (vp_cell (G.2.1 t) (N0, .inl (I i0))) := hw.arI hi0 ht0 h4
  have hc1 : H[xb G + i1]? = some (vp_cell (G.2.1 t) (N1, .inl (I i1))) := hw.arI hi1 ht1 h4
  obtain ⟨-, k0, hk0, cm0, hkk0⟩ := (hK.2 t _ (xty_at t h4)).1 N0 (fun j => .int (I i0 j))
  obtain ⟨-, k1, hk1, cm1, hkk1⟩ := (hK.2 t _ (xty_at t h4)).1 N1 (fun j => .int (I i1 j))
  obtain ⟨vm', X', step⟩ := X9.arraycopy hx hown (hts _ q) (hts _ q882) (hts _ q881) (hts _ q126) (src := xb G + i0) (dst := xb G + i1) (cs := vp_cell (G.2.1 t) (N0, .inl (I i0))) (cd := vp_cell (G.2.1 t) (N1, .inl (I i1))) (srcPos := sp) (destPos := dp) (n := m9) (by rw [hT]; exact hc0) (by rw [hT]; exact hc1)
    (fun _ h => by cases h) (fun _ h => by cases h) (fun h => by cases h) (fun h => by cases h) hk0 hk1 hkk0 hkk1 (by simp [xty_p]) h1 h2 h3
    (by rw [nn sp h1, nn m9 h3]; show ¬ _ > ((arrV (G.2.1 t) N0 (fun j => .int (I i0 j))).slots.size : Int); rw [arrV_size]; omega)
    (by rw [nn dp h2, nn m9 h3]; show ¬ _ > ((arrV (G.2.1 t) N1 (fun j => .int (I i1 j))).slots.size : Int); rw [arrV_size]; omega)
    (fun vm₁ _ i hi => by
      have e : (vp_cell (G.2.1 t) (N0, .inl (I i0))).slots.getD (sp.toNatClampNeg + i) .null = .int (I i0 (sp.toNatClampNeg + i)) := by
        show (arrV (G.2.1 t) N0 (fun j => .int (I i0 j))).slots.getD _ _ = _
        rw [Array.getD_eq_getD_getElem?, arrV_read _ _ (by omega)]
        rfl
      refine ⟨?_, ?_⟩
      · rw [e]
        exact hfit i hi
      · rw [e]
        exact trivial)
    (g := F0 m pc ls (.int m9 :: .int dp :: .ref (xb G + i1) :: .int sp :: .ref (xb G + i0) :: st)) rfl (by rw [hml]; exact hl.1) (rest := st) rfl (by rw [hb]; exact d) (by show 1 ≤ k; omega) (by
      have e9 : nativeFrameWords "java/lang/System" "arraycopy" 5 + 11 ≤ 100 := by decide
      show 2 * 0 + (st.map fun v => v.category).sum + (nativeFrameWords "java/lang/System" "arraycopy" 5 + 11) ≤ 64 * k
      omega)
  have e1 : copied (vp_cell (G.2.1 t) (N0, .inl (I i0))) (vp_cell (G.2.1 t) (N1, .inl (I i1))) sp dp m9 = vp_cell (G.2.1 t) (N1, .inl (va_cpy (I i0) (I i1) sp.toNatClampNeg dp.toNatClampNeg m9.toNatClampNeg)) := va_copied (fun z => .int z) (G.2.1 t) (G.2.1 t) (I i0) (I i1) h5
  rw [e1] at X' step
  have hl1 : xb G + i1 < H.size := hw.lt hi1
  have hheap : ((T.setVm vm').setCell (xb G + i1) (vp_cell (G.2.1 t) (N1, .inl (va_cpy (I i0) (I i1) sp.toNatClampNeg dp.toNatClampNeg m9.toNatClampNeg)))).heap = H.setIfInBounds (xb G + i1) (vp_cell (G.2.1 t) (N1, .inl (va_cpy (I i0) (I i1) sp.toNatClampNeg dp.toNatClampNeg m9.toNatClampNeg))) := by rw [← hT]; rfl
  have oq : ∀ q : Nat, q ≠ xb G + i1 → (H.setIfInBounds (xb G + i1) (vp_cell (G.2.1 t) (N1, .inl (va_cpy (I i0) (I i1) sp.toNatClampNeg dp.toNatClampNeg m9.toNatClampNeg))))[q]? = H[q]? := fun q hq => by simp [Array.getElem?_setIfInBounds, Ne.symm hq]
  have hin : xA G own (xb G + i1) := xA.in (hw.2.2.1 i1 hi1 (by rw [ht1]; exact fun q => by cases q))
  obtain ⟨t9, a1, b1⟩ := kk _ rfl _ _ ls (hw.put (i := i1) (by simp) oq (I' := cpy2 I i1 dp.toNatClampNeg i0 sp.toNatClampNeg m9.toNatClampNeg) (L' := L) (F' := F) (fun j hj => xcell_I (by funext y; rw [cpy2_ap, if_neg (fun z => hj z.1)]) rfl rfl) (fun e' he => by
      rw [xcell_a ht1] at he
      cases he
      rw [xarr_I h4]
      show (H.setIfInBounds (xb G + i1) _)[xb G + i1]? = some (vp_cell (G.2.1 t) (N1, .inl _))
      rw [Array.getElem?_setIfInBounds, if_pos rfl, if_pos hl1]
      congr 1
      rw [vp_cell_i, vp_cell_i]
      congr 1
      funext y
      simp only [va_cpy, cpy2_ap, true_and]))
    ⟨by simp; exact hS.1, fun q g1 g2 => by
      rw [oq q (fun e => g2 (by rw [e]; exact hin))]
      exact hS.2.1 q g1 g2, fun q hq => by
      rcases List.mem_append.mp hq with h | h
      · exact hS.2.2 q h
      · obtain ⟨z, -, hz⟩ := List.mem_map.mp h
        rw [← hz]
        exact hin⟩ hl _ hheap X'
  exact ⟨t9, step t9 a1, b1⟩
theorem x_objInit (h : XOk Θ l cls cc nL k mc ms ret nm G own post) {idx i : Nat} (q : Jvm.Cond.methodLink cls idx Lib.objectInit ∈ lw_all) (q1 : Jvm.Cond.instanceMethod Lib.objectInit ∈ lw_all) (q2 : Jvm.Cond.code Lib.objectInit ⟨#[0xb1]⟩ 1 none ∈ lw_all) (hk : 1 ≤ k) (hrest : (st.map fun v => v.category).sum ≤ 8) (d : decode cc pc = .ok (.invokespecial idx, 3)) (kk : X Θ ce sl n Ty I L F (pc + 3) lv st) : X Θ ce sl n Ty I L F pc lv (.ref (xb G + i) :: st) := by
  obtain ⟨⟨p, l9, e, R, s, m, args, below, meth, c, Qx⟩, G9, own9, nL9, mc9, ms9, post9⟩ := Θ
  obtain ⟨⟨rfl, rfl, rfl, rfl, rfl, rfl, rfl⟩, hx, hb, hml, hown, hts, hKK, hK, hr, hlk, rfl, hnm, hsz, hmq⟩ := h
  intro H locs ls hw hS hl
  exact W.objInit hx hb hown (hts _ q) (hts _ q1) (hts _ q2) (g := F0 m pc ls (.ref (xb G + i) :: st)) rfl (by show ls.size = _; rw [hml]; exact hl.1) (rest := st) rfl d (by show 1 ≤ k; omega) (by show 2 * 0 + (st.map fun v => v.category).sum + 12 ≤ 64 * k; omega) (kk H locs ls hw hS hl)
end XC
