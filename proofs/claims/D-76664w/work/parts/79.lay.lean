/-! CONTRACTS after which cells of unknown shape may stand behind -/
def xpX (n : Nat) (Ty : Nat → xs_T) (L : xL_T) (F : xF_T) (φ : Option Value → xI_T → Prop) : xP_T := fun v n' Ty' I' L' F' => n ≤ n' ∧ (∀ i : Nat, i < n → Ty' i = Ty i) ∧ L' = L ∧ F' = F ∧ φ v I'
theorem WC.grow {n n' : Nat} {Ty Ty' : Nat → xs_T} {F : xF_T} (h : WC n Ty F) (h1 : n ≤ n') (h2 : ∀ i : Nat, i < n → Ty' i = Ty i) : WC n' Ty' F := by
  obtain ⟨a, b, c⟩ := h
  refine ⟨Nat.le_trans a h1, fun i s hs => ?_, c⟩
  have hi : i < 103 := by
    by_cases q : i < 103
    · exact q
    · exfalso
      have e : TyC i = none := by
        unfold TyC
        split <;> first | rfl | omega
      rw [e] at hs
      cases hs
  rw [h2 i (Nat.lt_of_lt_of_le hi a)]
  exact b i s hs
theorem xtr_t {n : Nat} {Ty : Nat → xs_T} : ∀ i : Nat, i < n → xtr n Ty i = Ty i := fun _ h => xtr_l h
/-- a shelf as a row of buyers is read from it -/
theorem shK.byte {n : Nat} {Ty : Nat → xs_T} {I : xI_T} {L : xL_T} {F : xF_T} {J : xI_T} {M : xL_T} {s : Nat} (h : shK n Ty I L F J M s) : (F 33 s = none ∧ J 90 s = -1) ∨ (∃ q a z : Nat, F 33 s = some q ∧ q < n ∧ Ty q = some (.inl 24) ∧ J 90 s = nI 0 ∧ F q 0 = some a ∧ 103 ≤ a ∧ a < n ∧ z ≤ 60 ∧ J 91 s = nI z ∧ Ty a = some (.inr (1, z)) ∧ ∀ i : Nat, i < z → (I a i).toInt64 = M 92 (60 * s + i)) ∨ ∃ q ci t : Nat, F 33 s = some q ∧ q < n ∧ Ty q = some (.inl ci) ∧ ((15 ≤ ci ∧ ci ≤ 22) ∨ (25 ≤ ci ∧ ci ≤ 28)) ∧ J 90 s = nI t ∧ 0 < t ∧ t < 1000 := by
  rcases h with h | ⟨q, t, a, z, ⟨h1, h2, h3, h4, h5⟩, h6, ⟨h7, h8, h9, h10, h11, h12⟩, h13⟩ | ⟨q, b, c, ⟨h1, h2, h3, h4, h5, h6⟩, h7, h8⟩
  · exact Or.inl h
  · rcases Nat.eq_zero_or_pos t with rfl | ht
    · exact Or.inr (Or.inl ⟨q, a, z, h1, h3, h5, h6, h7, h8, h9, h10, h11, h12, fun i hi => by have := (h13 i hi).1; rw [if_neg (by decide)] at this; exact this⟩)
    · exact Or.inr (Or.inr ⟨q, 24 + t, t, h1, h3, h5, Or.inr (by omega), h6, ht, by omega⟩)
  · exact Or.inr (Or.inr ⟨q, 15 + c, 10 + b, h1, h4, h6, Or.inl (by omega), h8, by omega, by omega⟩)
section XR
variable {Θ : xT_T} {l : Launch} {cls : String} {cc : ByteArray} {nL k mc ms : Nat} {ret : Option FieldType} {nm : String} {G : xG_T} {own : Nat → Prop} {post : xP_T} {ce sl n : Nat} {Ty : Nat → xs_T} {I : xI_T} {L : xL_T} {F : xF_T} {pc : Nat} {lv : List (Option Value)} {st : List Value}
theorem x_castS (h : XOk Θ l cls cc nL k mc ms ret nm G own post) {idx i ci M : Nat} {E : String} {T : u_T} (q : Cond.classLink cls idx E ∈ lw_all) (hi : i < n) (ht : Ty i = some (.inl ci)) (hcl : xcl[ci]? = some (E, T, M)) (d : decode cc pc = .ok (.checkcast idx, 3)) (kk : X Θ ce sl n Ty I L F (pc + 3) lv (.ref (xb G + i) :: st)) : X Θ ce sl n Ty I L F pc lv (.ref (xb G + i) :: st) := by
  obtain ⟨⟨p, l9, e, R, s, m, args, below, meth, c, Qx⟩, G9, own9, nL9, mc9, ms9, post9⟩ := Θ
  obtain ⟨⟨rfl, rfl, rfl, rfl, rfl, rfl, rfl⟩, hx, hb, hml, hown, hts, hKK, hK, hr, hlk, rfl, hnm, hsz, hmq⟩ := h
  intro H locs ls hw hS hl
  exact va_castS hx hb hown (hts _ q) (hK.1 ci _ hcl).2 (va_recv hK (hw.at hi (xcell_o ht)) hcl (q0 := 0) rfl) d (kk H locs ls hw hS hl)
/-- a call after which cells of unknown shape may stand behind -/
theorem x_callVXi (h : XOk Θ l cls cc nL k mc ms ret nm G own post) {i ci : Nat} {y : MethodName} {cy : ByteArray} {nLy k' mc' ms' na idx : Nat} {rty : Option FieldType} {ψ : Int32 → xI_T → Prop} {As rest : List Value} (hM : Cg l k' mc' ms' y cy nLy rty G own (.ref (xb G + i) :: As) n Ty I L F (xpX n Ty L F (aR ψ))) (g : xcv cls idx ci y cy nLy rty na) (hi : i < n) (ht : Ty i = some (.inl ci)) (d : decode cc pc = .ok (.invokevirtual idx, 3)) (hk : k' < k ∧ nLy ≤ 45) (hce : ce + mc' ≤ mc ∧ sl + ms' ≤ ms) (hna : As.length = na) (hrest : (rest.map fun v => v.category).sum ≤ 8)
    (kk : ∀ (r : Int32) (n' : Nat) (Ty' : Nat → xs_T) (J : xI_T), n ≤ n' → (∀ i : Nat, i < n → Ty' i = Ty i) → ψ r J → X Θ (ce + mc') (sl + ms') n' Ty' J L F (pc + 3) lv (.int r :: rest)) : X Θ ce sl n Ty I L F pc lv (As.reverse ++ .ref (xb G + i) :: rest) := by
  refine x_callV h hM g hi ht d hk hce hna hrest ?_
  rintro _ n' Ty' J _ _ ⟨a, b, rfl, rfl, r, rfl, hp⟩
  exact kk r n' Ty' J a b hp
theorem x_callVWXi (h : XOk Θ l cls cc nL k mc ms ret nm G own post) {i ci : Nat} {y : MethodName} {cy : ByteArray} {nLy k' mc' ms' na idx : Nat} {rty : Option FieldType} {hh : List (Nat × Nat × Nat × Nat)} {ψ : Int32 → xI_T → Prop} {As rest : List Value} (hM : CgW l k' mc' ms' y cy nLy rty hh G own (.ref (xb G + i) :: As) n Ty I L F (xpX n Ty L F (aR ψ))) (g : xcvW cls idx ci y cy nLy rty hh na) (hi : i < n) (ht : Ty i = some (.inl ci)) (d : decode cc pc = .ok (.invokevirtual idx, 3)) (hk : k' < k ∧ nLy ≤ 45) (hce : ce + mc' ≤ mc ∧ sl + ms' ≤ ms) (hna : As.length = na) (hrest : (rest.map fun v => v.category).sum ≤ 8)
    (kk : ∀ (r : Int32) (n' : Nat) (Ty' : Nat → xs_T) (J : xI_T), n ≤ n' → (∀ i : Nat, i < n → Ty' i = Ty i) → ψ r J → X Θ (ce + mc') (sl + ms') n' Ty' J L F (pc + 3) lv (.int r :: rest)) : X Θ ce sl n Ty I L F pc lv (As.reverse ++ .ref (xb G + i) :: rest) := by
  refine x_callVW h hM g hi ht d hk hce hna hrest ?_
  rintro _ n' Ty' J _ _ ⟨a, b, rfl, rfl, r, rfl, hp⟩
  exact kk r n' Ty' J a b hp
end XR
