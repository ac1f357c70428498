/-! CALLS by contracts that say less -/
abbrev aR (ψ : Int32 → xI_T → Prop) : Option Value → xI_T → Prop := fun v I => ∃ r : Int32, v = some (.int r) ∧ ψ r I
abbrev aV (ψ : xI_T → Prop) : Option Value → xI_T → Prop := fun v I => v = none ∧ ψ I
abbrev aQ (G : xG_T) (q : Nat) (ψ : xI_T → Prop) : Option Value → xI_T → Prop := fun v I => v = some (.ref (xb G + q)) ∧ ψ I
section XR2
variable {Θ : xT_T} {l : Launch} {cls : String} {cc : ByteArray} {nL k mc ms : Nat} {ret : Option FieldType} {nm : String} {G : xG_T} {own : Nat → Prop} {post : xP_T} {ce sl n : Nat} {Ty : Nat → xs_T} {I : xI_T} {L : xL_T} {F : xF_T} {pc : Nat} {lv : List (Option Value)} {st : List Value}
theorem x_callVRi (h : XOk Θ l cls cc nL k mc ms ret nm G own post) {i ci : Nat} {y : MethodName} {cy : ByteArray} {nLy k' na idx : Nat} {rty : Option FieldType} {ψ : Int32 → xI_T → Prop} {As rest : List Value} (hM : Cg l k' 0 0 y cy nLy rty G own (.ref (xb G + i) :: As) n Ty I L F (xpR n Ty L F (aR ψ))) (g : xcv cls idx ci y cy nLy rty na) (hi : i < n) (ht : Ty i = some (.inl ci)) (d : decode cc pc = .ok (.invokevirtual idx, 3)) (hk : k' < k ∧ nLy ≤ 45) (hce : ce ≤ mc ∧ sl ≤ ms) (hna : As.length = na) (hrest : (rest.map fun v => v.category).sum ≤ 8)
    (kk : ∀ (r : Int32) (J : xI_T), ψ r J → X Θ ce sl n Ty J L F (pc + 3) lv (.int r :: rest)) : X Θ ce sl n Ty I L F pc lv (As.reverse ++ .ref (xb G + i) :: rest) := by
  refine x_callV h hM g hi ht d hk hce hna hrest ?_
  rintro _ _ _ J _ _ ⟨rfl, rfl, rfl, rfl, r, rfl, hp⟩
  exact kk r J hp
theorem x_callVRv (h : XOk Θ l cls cc nL k mc ms ret nm G own post) {i ci : Nat} {y : MethodName} {cy : ByteArray} {nLy k' na idx : Nat} {rty : Option FieldType} {ψ : xI_T → Prop} {As rest : List Value} (hM : Cg l k' 0 0 y cy nLy rty G own (.ref (xb G + i) :: As) n Ty I L F (xpR n Ty L F (aV ψ))) (g : xcv cls idx ci y cy nLy rty na) (hi : i < n) (ht : Ty i = some (.inl ci)) (d : decode cc pc = .ok (.invokevirtual idx, 3)) (hk : k' < k ∧ nLy ≤ 45) (hce : ce ≤ mc ∧ sl ≤ ms) (hna : As.length = na) (hrest : (rest.map fun v => v.category).sum ≤ 8)
    (kk : ∀ (J : xI_T), ψ J → X Θ ce sl n Ty J L F (pc + 3) lv rest) : X Θ ce sl n Ty I L F pc lv (As.reverse ++ .ref (xb G + i) :: rest) := by
  refine x_callV h hM g hi ht d hk hce hna hrest ?_
  rintro _ _ _ J _ _ ⟨rfl, rfl, rfl, rfl, rfl, hp⟩
  exact kk J hp
theorem x_callVRr (h : XOk Θ l cls cc nL k mc ms ret nm G own post) {i ci : Nat} {y : MethodName} {cy : ByteArray} {nLy k' na idx : Nat} {rty : Option FieldType} {q9 : Nat} {ψ : xI_T → Prop} {As rest : List Value} (hM : Cg l k' 0 0 y cy nLy rty G own (.ref (xb G + i) :: As) n Ty I L F (xpR n Ty L F (aQ G q9 ψ))) (g : xcv cls idx ci y cy nLy rty na) (hi : i < n) (ht : Ty i = some (.inl ci)) (d : decode cc pc = .ok (.invokevirtual idx, 3)) (hk : k' < k ∧ nLy ≤ 45) (hce : ce ≤ mc ∧ sl ≤ ms) (hna : As.length = na) (hrest : (rest.map fun v => v.category).sum ≤ 8)
    (kk : ∀ (J : xI_T), ψ J → X Θ ce sl n Ty J L F (pc + 3) lv (.ref (xb G + q9) :: rest)) : X Θ ce sl n Ty I L F pc lv (As.reverse ++ .ref (xb G + i) :: rest) := by
  refine x_callV h hM g hi ht d hk hce hna hrest ?_
  rintro _ _ _ J _ _ ⟨rfl, rfl, rfl, rfl, rfl, hp⟩
  exact kk J hp
theorem x_callSRi (h : XOk Θ l cls cc nL k mc ms ret nm G own post)  {y : MethodName} {cy : ByteArray} {nLy k' na idx : Nat} {rty : Option FieldType} {ψ : Int32 → xI_T → Prop} {As rest : List Value} (hM : Cg l k' 0 0 y cy nLy rty G own (As) n Ty I L F (xpR n Ty L F (aR ψ))) (g : xcs cls idx y cy nLy rty na)  (d : decode cc pc = .ok (.invokestatic idx, 3)) (hk : k' < k ∧ nLy ≤ 45) (hce : ce ≤ mc ∧ sl ≤ ms) (hna : As.length = na) (hrest : (rest.map fun v => v.category).sum ≤ 8)
    (kk : ∀ (r : Int32) (J : xI_T), ψ r J → X Θ ce sl n Ty J L F (pc + 3) lv (.int r :: rest)) : X Θ ce sl n Ty I L F pc lv (As.reverse ++ rest) := by
  refine x_callS h hM g  d hk hce hna hrest ?_
  rintro _ _ _ J _ _ ⟨rfl, rfl, rfl, rfl, r, rfl, hp⟩
  exact kk r J hp
theorem x_callSRv (h : XOk Θ l cls cc nL k mc ms ret nm G own post)  {y : MethodName} {cy : ByteArray} {nLy k' na idx : Nat} {rty : Option FieldType} {ψ : xI_T → Prop} {As rest : List Value} (hM : Cg l k' 0 0 y cy nLy rty G own (As) n Ty I L F (xpR n Ty L F (aV ψ))) (g : xcs cls idx y cy nLy rty na)  (d : decode cc pc = .ok (.invokestatic idx, 3)) (hk : k' < k ∧ nLy ≤ 45) (hce : ce ≤ mc ∧ sl ≤ ms) (hna : As.length = na) (hrest : (rest.map fun v => v.category).sum ≤ 8)
    (kk : ∀ (J : xI_T), ψ J → X Θ ce sl n Ty J L F (pc + 3) lv rest) : X Θ ce sl n Ty I L F pc lv (As.reverse ++ rest) := by
  refine x_callS h hM g  d hk hce hna hrest ?_
  rintro _ _ _ J _ _ ⟨rfl, rfl, rfl, rfl, rfl, hp⟩
  exact kk J hp
theorem x_callSRr (h : XOk Θ l cls cc nL k mc ms ret nm G own post)  {y : MethodName} {cy : ByteArray} {nLy k' na idx : Nat} {rty : Option FieldType} {q9 : Nat} {ψ : xI_T → Prop} {As rest : List Value} (hM : Cg l k' 0 0 y cy nLy rty G own (As) n Ty I L F (xpR n Ty L F (aQ G q9 ψ))) (g : xcs cls idx y cy nLy rty na)  (d : decode cc pc = .ok (.invokestatic idx, 3)) (hk : k' < k ∧ nLy ≤ 45) (hce : ce ≤ mc ∧ sl ≤ ms) (hna : As.length = na) (hrest : (rest.map fun v => v.category).sum ≤ 8)
    (kk : ∀ (J : xI_T), ψ J → X Θ ce sl n Ty J L F (pc + 3) lv (.ref (xb G + q9) :: rest)) : X Θ ce sl n Ty I L F pc lv (As.reverse ++ rest) := by
  refine x_callS h hM g  d hk hce hna hrest ?_
  rintro _ _ _ J _ _ ⟨rfl, rfl, rfl, rfl, rfl, hp⟩
  exact kk J hp
theorem x_callVEr (h : XOk Θ l cls cc nL k mc ms ret nm G own post) {i ci : Nat} {y : MethodName} {cy : ByteArray} {nLy k' na idx n2 q9 : Nat} {Ty2 : Nat → xs_T} {I2 : xI_T} {L2 : xL_T} {F2 : xF_T} {rty : Option FieldType} {As rest : List Value} (hM : Cg l k' 0 0 y cy nLy rty G own (.ref (xb G + i) :: As) n Ty I L F (xpE (some (.ref (xb G + q9))) n2 Ty2 I2 L2 F2)) (g : xcv cls idx ci y cy nLy rty na) (hi : i < n) (ht : Ty i = some (.inl ci)) (d : decode cc pc = .ok (.invokevirtual idx, 3)) (hk : k' < k ∧ nLy ≤ 45) (hce : ce ≤ mc ∧ sl ≤ ms) (hna : As.length = na) (hrest : (rest.map fun v => v.category).sum ≤ 8)
    (kk : X Θ ce sl n2 Ty2 I2 L2 F2 (pc + 3) lv (.ref (xb G + q9) :: rest)) : X Θ ce sl n Ty I L F pc lv (As.reverse ++ .ref (xb G + i) :: rest) := by
  refine x_callV h hM g hi ht d hk hce hna hrest ?_
  rintro _ _ _ _ _ _ ⟨rfl, rfl, rfl, rfl, rfl, rfl⟩
  exact kk
theorem x_callSEr (h : XOk Θ l cls cc nL k mc ms ret nm G own post)  {y : MethodName} {cy : ByteArray} {nLy k' na idx n2 q9 : Nat} {Ty2 : Nat → xs_T} {I2 : xI_T} {L2 : xL_T} {F2 : xF_T} {rty : Option FieldType} {As rest : List Value} (hM : Cg l k' 0 0 y cy nLy rty G own (As) n Ty I L F (xpE (some (.ref (xb G + q9))) n2 Ty2 I2 L2 F2)) (g : xcs cls idx y cy nLy rty na)  (d : decode cc pc = .ok (.invokestatic idx, 3)) (hk : k' < k ∧ nLy ≤ 45) (hce : ce ≤ mc ∧ sl ≤ ms) (hna : As.length = na) (hrest : (rest.map fun v => v.category).sum ≤ 8)
    (kk : X Θ ce sl n2 Ty2 I2 L2 F2 (pc + 3) lv (.ref (xb G + q9) :: rest)) : X Θ ce sl n Ty I L F pc lv (As.reverse ++ rest) := by
  refine x_callS h hM g  d hk hce hna hrest ?_
  rintro _ _ _ _ _ _ ⟨rfl, rfl, rfl, rfl, rfl, rfl⟩
  exact kk
end XR2
