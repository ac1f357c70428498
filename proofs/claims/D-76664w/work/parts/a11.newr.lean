/-! NEW OBJECTS: names for the world behind -/
theorem WC.nw {n : Nat} {Ty : Nat → xs_T} {F : xF_T} {s : xs_T} (h : WC n Ty F) : WC (n + 1) (nwT Ty n s) (nw1 F n none) := by
  obtain ⟨a, b, c⟩ := h.grow (n' := n + 1) (Ty' := nwT Ty n s) (Nat.le_succ n) (fun i hi => by rw [nwT_ap, if_neg (by omega)])
  refine ⟨a, b, fun i k j hj => ?_⟩
  obtain ⟨z1, -⟩ := FC_k hj
  have := h.1
  rw [nw1_r _ _ _ (by omega)]
  exact c i k j hj
theorem WC.up {n : Nat} {Ty : Nat → xs_T} {F : xF_T} {i k : Nat} {v : Option Nat} (h : WC n Ty F) (hi : i = 1 ∨ i = 2 ∨ i = 32 ∨ i = 33 ∨ (i = 0 ∧ k = 10) ∨ 70 ≤ i) : WC n Ty (up2 F i k v) := by
  refine ⟨h.1, h.2.1, fun a b j hj => ?_⟩
  obtain ⟨z1, z2, z3, z4, z5, z6⟩ := FC_k hj
  rw [up2_n _ _ (by omega)]
  exact h.2.2 a b j hj
theorem grw.nw {n : Nat} {Ty : Nat → xs_T} {s : xs_T} : grw n (n + 1) Ty (nwT Ty n s) := ⟨Nat.le_succ n, fun i hi => by rw [nwT_ap, if_neg (by omega)]⟩
theorem grw.tr {n1 n2 n3 : Nat} {T1 T2 T3 : Nat → xs_T} (h : grw n1 n2 T1 T2) (h2 : grw n2 n3 T2 T3) : grw n1 n3 T1 T3 := ⟨Nat.le_trans h.1 h2.1, fun i hi => (h2.2 i (Nat.lt_of_lt_of_le hi h.1)).trans (h.2 i hi)⟩
section XU
variable {Θ : xT_T} {l : Launch} {cls : String} {cc : ByteArray} {nL k mc ms : Nat} {ret : Option FieldType} {nm : String} {G : xG_T} {own : Nat → Prop} {post : xP_T} {ce sl n : Nat} {Ty : Nat → xs_T} {I : xI_T} {L : xL_T} {F : xF_T} {pc : Nat} {lv : List (Option Value)} {st : List Value}
theorem x_nmW (kk : ∀ (n2 : Nat) (T2 : Nat → xs_T) (J : xI_T) (Q : xF_T), n2 = n → T2 = Ty → J = I → Q = F → X Θ ce sl n2 T2 J L Q pc lv st) : X Θ ce sl n Ty I L F pc lv st := kk n Ty I F rfl rfl rfl rfl
theorem x_nmF (kk : ∀ Q : xF_T, Q = F → X Θ ce sl n Ty I L Q pc lv st) : X Θ ce sl n Ty I L F pc lv st := kk F rfl
theorem x_callVPi (h : XOk Θ l cls cc nL k mc ms ret nm G own post) {i ci : Nat} {y : MethodName} {cy : ByteArray} {nLy k' mc' ms' na idx : Nat} {rty : Option FieldType} {r : Int32} {J' : xI_T} {M' : xL_T} {As rest : List Value} (hM : Cg l k' mc' ms' y cy nLy rty G own (.ref (xb G + i) :: As) n Ty I L F (pT n Ty (.int r) J' M')) (g : xcv cls idx ci y cy nLy rty na) (hi : i < n) (ht : Ty i = some (.inl ci)) (d : decode cc pc = .ok (.invokevirtual idx, 3)) (hk : k' < k ∧ nLy ≤ 45) (hce : ce + mc' ≤ mc ∧ sl + ms' ≤ ms) (hna : As.length = na) (hrest : (rest.map fun v => v.category).sum ≤ 8)
    (kk : ∀ (n' : Nat) (Ty' : Nat → xs_T) (I' : xI_T) (L' : xL_T) (F' : xF_T), grw n n' Ty Ty' → TOP n' Ty' I' L' F' J' M' → X Θ (ce + mc') (sl + ms') n' Ty' I' L' F' (pc + 3) lv (.int r :: rest)) : X Θ ce sl n Ty I L F pc lv (As.reverse ++ .ref (xb G + i) :: rest) := by
  refine x_callV h hM g hi ht d hk hce hna hrest ?_
  rintro _ n' Ty' J L' F' ⟨rfl, a, b⟩
  exact kk n' Ty' J L' F' a b
end XU
