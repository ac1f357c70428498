/-! WALKS OF THE COMPONENT: the law's values -/
theorem g_X12_7 : xfg RX12 7 12 0 := ⟨_, _, _, rfl, by decide, in_X12, q605, rfl⟩
theorem g_X9_13 : xfgN RX9 13 1 0 := ⟨_, _, _, _, rfl, by decide, in_X1, q646, rfl⟩
theorem g_X9_7 : xfg RX9 7 9 0 := ⟨_, _, _, rfl, by decide, in_X9, q566, rfl⟩
theorem g_X10_7 : xfg RX10 7 10 0 := ⟨_, _, _, rfl, by decide, in_X10, q584, rfl⟩
theorem g_X11_7 : xfg RX11 7 11 0 := ⟨_, _, _, rfl, by decide, in_X11, q594, rfl⟩
theorem g_X13_13 : xfg RX13 13 13 1 := ⟨_, _, _, rfl, by decide, in_X13, q621, rfl⟩
theorem g_X13_17 : xfg RX13 17 13 2 := ⟨_, _, _, rfl, by decide, in_X13, q622, rfl⟩
theorem g_X13_7 : xfg RX13 7 13 0 := ⟨_, _, _, rfl, by decide, in_X13, q620, rfl⟩
theorem m_X13_24 : xcs RX13 24 yX13_is cX13_is 1 (some .int) 1 := ⟨lw_S q929 q930 q125 q931, by decide +kernel, by decide +kernel, by decide +kernel⟩
/-- what a call of value() on any node asks, by its caller -/
def xnd (cls : String) (idx : Nat) : Prop := xcu cls idx 9 "ThirdAfter$Node" ⟨"ThirdAfter$Node", "value", "(LThirdAfter$Facts;)I"⟩ yX9_value cX9_value 2 (some .int) 1 ∧ xcu cls idx 10 "ThirdAfter$Node" ⟨"ThirdAfter$Node", "value", "(LThirdAfter$Facts;)I"⟩ yX10_value cX10_value 2 (some .int) 1 ∧ xcu cls idx 11 "ThirdAfter$Node" ⟨"ThirdAfter$Node", "value", "(LThirdAfter$Facts;)I"⟩ yX11_value cX11_value 2 (some .int) 1 ∧ xcu cls idx 12 "ThirdAfter$Node" ⟨"ThirdAfter$Node", "value", "(LThirdAfter$Facts;)I"⟩ yX12_value cX12_value 2 (some .int) 1 ∧ xcu cls idx 13 "ThirdAfter$Node" ⟨"ThirdAfter$Node", "value", "(LThirdAfter$Facts;)I"⟩ yX13_value cX13_value 4 (some .int) 1
def ValC (l : Launch) (d : Nat) (y : MethodName) (cc : ByteArray) (nL : Nat) (G : xG_T) (n : Nat) (Ty : Nat → xs_T) (F : xF_T) (q : Nat) (I : xI_T) (L : xL_T) (v : Int32) : Prop := CE l (d + 2) y cc nL (some .int) G n Ty F [.ref (xb G + q), .ref (xb G + 4)] I L (some (.int v)) I
/-- any tree of height below d: its value -/
def ValP (d : Nat) : Prop := ∀ (l : Launch) (G : xG_T) (n : Nat) (Ty : Nat → xs_T) (F : xF_T) (_ : WC n Ty F) (I : xI_T) (L : xL_T) (q : Nat) (c : List Int32) (_ : nodeIs n Ty I F d q c) (nm : Nat → Int32) (_ : NM I nm) (v : Int32) (_ : ∀ s : List Int32, evs nm c s = v :: s),
  (Ty q = some (.inl 9) → ValC l d yX9_value cX9_value 2 G n Ty F q I L v) ∧ (Ty q = some (.inl 10) → ValC l d yX10_value cX10_value 2 G n Ty F q I L v) ∧ (Ty q = some (.inl 11) → ValC l d yX11_value cX11_value 2 G n Ty F q I L v) ∧ (Ty q = some (.inl 12) → ValC l d yX12_value cX12_value 2 G n Ty F q I L v) ∧ (Ty q = some (.inl 13) → ValC l d yX13_value cX13_value 4 G n Ty F q I L v)
theorem node_ty {n : Nat} {Ty : Nat → xs_T} {I : xI_T} {F : xF_T} {d q : Nat} {c : List Int32} (h : nodeIs n Ty I F d q c) : q < n ∧ (Ty q = some (.inl 9) ∨ Ty q = some (.inl 10) ∨ Ty q = some (.inl 11) ∨ Ty q = some (.inl 12) ∨ Ty q = some (.inl 13)) := by
  match d, h with
  | d + 1, ⟨_, hn, h⟩ =>
    refine ⟨hn, ?_⟩
    rcases h with ⟨a, _⟩ | ⟨a, _⟩ | ⟨a, _⟩ | ⟨a, _⟩ | ⟨a, _⟩
    · exact Or.inr (Or.inr (Or.inr (Or.inl a)))
    · exact Or.inl a
    · exact Or.inr (Or.inl a)
    · exact Or.inr (Or.inr (Or.inl a))
    · exact Or.inr (Or.inr (Or.inr (Or.inr a)))
/-- value() called on any node -/
theorem x_node {Θ : xT_T} {l : Launch} {cls : String} {cc : ByteArray} {nL k mc ms : Nat} {ret : Option FieldType} {nm : String} {G : xG_T} {post : xP_T} {ce sl n : Nat} {Ty : Nat → xs_T} {I : xI_T} {L : xL_T} {F : xF_T} {pc : Nat} {lv : List (Option Value)} (h : XOk Θ l cls cc nL k mc ms ret nm G idC post) {d q idx : Nat} {c : List Int32} {rest : List Value} (hV : ValP d) (hC : WC n Ty F) (hn : nodeIs n Ty I F d q c) {ns : Nat → Int32} (hN : NM I ns) {v : Int32} (hv : ∀ s : List Int32, evs ns c s = v :: s) (g : xnd cls idx) (dd : decode cc pc = .ok (.invokevirtual idx, 3)) (hk : d + 2 < k) (hce : ce ≤ mc ∧ sl ≤ ms) (hrest : (rest.map fun v => v.category).sum ≤ 8)
    (kk : X Θ ce sl n Ty I L F (pc + 3) lv (.int v :: rest)) : X Θ ce sl n Ty I L F pc lv (.ref (xb G + 4) :: .ref (xb G + q) :: rest) := by
  obtain ⟨hq, ht⟩ := node_ty hn
  obtain ⟨g1, g2, g3, g4, g5⟩ := g
  obtain ⟨v1, v2, v3, v4, v5⟩ := hV l G n Ty F hC I L q c hn ns hN v hv
  rcases ht with ht | ht | ht | ht | ht
  · exact x_callUEi h (As := [.ref (xb G + 4)]) (v1 ht) g1 hq ht dd ⟨hk, by decide⟩ hce rfl hrest kk
  · exact x_callUEi h (As := [.ref (xb G + 4)]) (v2 ht) g2 hq ht dd ⟨hk, by decide⟩ hce rfl hrest kk
  · exact x_callUEi h (As := [.ref (xb G + 4)]) (v3 ht) g3 hq ht dd ⟨hk, by decide⟩ hce rfl hrest kk
  · exact x_callUEi h (As := [.ref (xb G + 4)]) (v4 ht) g4 hq ht dd ⟨hk, by decide⟩ hce rfl hrest kk
  · exact x_callUEi h (As := [.ref (xb G + 4)]) (v5 ht) g5 hq ht dd ⟨hk, by decide⟩ hce rfl hrest kk
theorem u_X10_13_X9 : xcu RX10 13 9 "ThirdAfter$Node" ⟨"ThirdAfter$Node", "value", "(LThirdAfter$Facts;)I"⟩ yX9_value cX9_value 2 (some .int) 1 := ⟨_, _, _, rfl, lw_app (a := [.methodLink RX10 13 ⟨"ThirdAfter$Node", "value", "(LThirdAfter$Facts;)I"⟩, .sameMethod "ThirdAfter$Node" "ThirdAfter$Node" "value" "(LThirdAfter$Facts;)I", .selects RX9 ⟨"ThirdAfter$Node", "value", "(LThirdAfter$Facts;)I"⟩ yX9_value, .instanceMethod yX9_value, .initialized RX9]) (List.forall_mem_cons.mpr ⟨q918, List.forall_mem_cons.mpr ⟨q914, List.forall_mem_cons.mpr ⟨q933, List.forall_mem_cons.mpr ⟨q921, List.forall_mem_cons.mpr ⟨q121, fun w h => absurd h List.not_mem_nil⟩⟩⟩⟩⟩) (lw_meth q922), by decide +kernel, by decide +kernel, by decide +kernel, Or.inr (Or.inr q913)⟩
theorem u_X10_13_X10 : xcu RX10 13 10 "ThirdAfter$Node" ⟨"ThirdAfter$Node", "value", "(LThirdAfter$Facts;)I"⟩ yX10_value cX10_value 2 (some .int) 1 := ⟨_, _, _, rfl, lw_app (a := [.methodLink RX10 13 ⟨"ThirdAfter$Node", "value", "(LThirdAfter$Facts;)I"⟩, .sameMethod "ThirdAfter$Node" "ThirdAfter$Node" "value" "(LThirdAfter$Facts;)I", .selects RX10 ⟨"ThirdAfter$Node", "value", "(LThirdAfter$Facts;)I"⟩ yX10_value, .instanceMethod yX10_value, .initialized RX10]) (List.forall_mem_cons.mpr ⟨q918, List.forall_mem_cons.mpr ⟨q914, List.forall_mem_cons.mpr ⟨q915, List.forall_mem_cons.mpr ⟨q916, List.forall_mem_cons.mpr ⟨q122, fun w h => absurd h List.not_mem_nil⟩⟩⟩⟩⟩) (lw_meth q917), by decide +kernel, by decide +kernel, by decide +kernel, Or.inr (Or.inr q913)⟩
theorem u_X10_13_X11 : xcu RX10 13 11 "ThirdAfter$Node" ⟨"ThirdAfter$Node", "value", "(LThirdAfter$Facts;)I"⟩ yX11_value cX11_value 2 (some .int) 1 := ⟨_, _, _, rfl, lw_app (a := [.methodLink RX10 13 ⟨"ThirdAfter$Node", "value", "(LThirdAfter$Facts;)I"⟩, .sameMethod "ThirdAfter$Node" "ThirdAfter$Node" "value" "(LThirdAfter$Facts;)I", .selects RX11 ⟨"ThirdAfter$Node", "value", "(LThirdAfter$Facts;)I"⟩ yX11_value, .instanceMethod yX11_value, .initialized RX11]) (List.forall_mem_cons.mpr ⟨q918, List.forall_mem_cons.mpr ⟨q914, List.forall_mem_cons.mpr ⟨q935, List.forall_mem_cons.mpr ⟨q926, List.forall_mem_cons.mpr ⟨q123, fun w h => absurd h List.not_mem_nil⟩⟩⟩⟩⟩) (lw_meth q927), by decide +kernel, by decide +kernel, by decide +kernel, Or.inr (Or.inr q913)⟩
theorem u_X10_13_X12 : xcu RX10 13 12 "ThirdAfter$Node" ⟨"ThirdAfter$Node", "value", "(LThirdAfter$Facts;)I"⟩ yX12_value cX12_value 2 (some .int) 1 := ⟨_, _, _, rfl, lw_app (a := [.methodLink RX10 13 ⟨"ThirdAfter$Node", "value", "(LThirdAfter$Facts;)I"⟩, .sameMethod "ThirdAfter$Node" "ThirdAfter$Node" "value" "(LThirdAfter$Facts;)I", .selects RX12 ⟨"ThirdAfter$Node", "value", "(LThirdAfter$Facts;)I"⟩ yX12_value, .instanceMethod yX12_value, .initialized RX12]) (List.forall_mem_cons.mpr ⟨q918, List.forall_mem_cons.mpr ⟨q914, List.forall_mem_cons.mpr ⟨q932, List.forall_mem_cons.mpr ⟨q919, List.forall_mem_cons.mpr ⟨q124, fun w h => absurd h List.not_mem_nil⟩⟩⟩⟩⟩) (lw_meth q920), by decide +kernel, by decide +kernel, by decide +kernel, Or.inr (Or.inr q913)⟩
theorem u_X10_13_X13 : xcu RX10 13 13 "ThirdAfter$Node" ⟨"ThirdAfter$Node", "value", "(LThirdAfter$Facts;)I"⟩ yX13_value cX13_value 4 (some .int) 1 := ⟨_, _, _, rfl, lw_app (a := [.methodLink RX10 13 ⟨"ThirdAfter$Node", "value", "(LThirdAfter$Facts;)I"⟩, .sameMethod "ThirdAfter$Node" "ThirdAfter$Node" "value" "(LThirdAfter$Facts;)I", .selects RX13 ⟨"ThirdAfter$Node", "value", "(LThirdAfter$Facts;)I"⟩ yX13_value, .instanceMethod yX13_value, .initialized RX13]) (List.forall_mem_cons.mpr ⟨q918, List.forall_mem_cons.mpr ⟨q914, List.forall_mem_cons.mpr ⟨q934, List.forall_mem_cons.mpr ⟨q923, List.forall_mem_cons.mpr ⟨q125, fun w h => absurd h List.not_mem_nil⟩⟩⟩⟩⟩) (lw_meth q924), by decide +kernel, by decide +kernel, by decide +kernel, Or.inr (Or.inr q913)⟩
theorem xnd_X10_13 : xnd RX10 13 := ⟨u_X10_13_X9, u_X10_13_X10, u_X10_13_X11, u_X10_13_X12, u_X10_13_X13⟩
theorem u_X11_13_X9 : xcu RX11 13 9 "ThirdAfter$Node" ⟨"ThirdAfter$Node", "value", "(LThirdAfter$Facts;)I"⟩ yX9_value cX9_value 2 (some .int) 1 := ⟨_, _, _, rfl, lw_app (a := [.methodLink RX11 13 ⟨"ThirdAfter$Node", "value", "(LThirdAfter$Facts;)I"⟩, .sameMethod "ThirdAfter$Node" "ThirdAfter$Node" "value" "(LThirdAfter$Facts;)I", .selects RX9 ⟨"ThirdAfter$Node", "value", "(LThirdAfter$Facts;)I"⟩ yX9_value, .instanceMethod yX9_value, .initialized RX9]) (List.forall_mem_cons.mpr ⟨q928, List.forall_mem_cons.mpr ⟨q914, List.forall_mem_cons.mpr ⟨q933, List.forall_mem_cons.mpr ⟨q921, List.forall_mem_cons.mpr ⟨q121, fun w h => absurd h List.not_mem_nil⟩⟩⟩⟩⟩) (lw_meth q922), by decide +kernel, by decide +kernel, by decide +kernel, Or.inr (Or.inr q913)⟩
theorem u_X11_13_X10 : xcu RX11 13 10 "ThirdAfter$Node" ⟨"ThirdAfter$Node", "value", "(LThirdAfter$Facts;)I"⟩ yX10_value cX10_value 2 (some .int) 1 := ⟨_, _, _, rfl, lw_app (a := [.methodLink RX11 13 ⟨"ThirdAfter$Node", "value", "(LThirdAfter$Facts;)I"⟩, .sameMethod "ThirdAfter$Node" "ThirdAfter$Node" "value" "(LThirdAfter$Facts;)I", .selects RX10 ⟨"ThirdAfter$Node", "value", "(LThirdAfter$Facts;)I"⟩ yX10_value, .instanceMethod yX10_value, .initialized RX10]) (List.forall_mem_cons.mpr ⟨q928, List.forall_mem_cons.mpr ⟨q914, List.forall_mem_cons.mpr ⟨q915, List.forall_mem_cons.mpr ⟨q916, List.forall_mem_cons.mpr ⟨q122, fun w h => absurd h List.not_mem_nil⟩⟩⟩⟩⟩) (lw_meth q917), by decide +kernel, by decide +kernel, by decide +kernel, Or.inr (Or.inr q913)⟩
theorem u_X11_13_X11 : xcu RX11 13 11 "ThirdAfter$Node" ⟨"ThirdAfter$Node", "value", "(LThirdAfter$Facts;)I"⟩ yX11_value cX11_value 2 (some .int) 1 := ⟨_, _, _, rfl, lw_app (a := [.methodLink RX11 13 ⟨"ThirdAfter$Node", "value", "(LThirdAfter$Facts;)I"⟩, .sameMethod "ThirdAfter$Node" "ThirdAfter$Node" "value" "(LThirdAfter$Facts;)I", .selects RX11 ⟨"ThirdAfter$Node", "value", "(LThirdAfter$Facts;)I"⟩ yX11_value, .instanceMethod yX11_value, .initialized RX11]) (List.forall_mem_cons.mpr ⟨q928, List.forall_mem_cons.mpr ⟨q914, List.forall_mem_cons.mpr ⟨q935, List.forall_mem_cons.mpr ⟨q926, List.forall_mem_cons.mpr ⟨q123, fun w h => absurd h List.not_mem_nil⟩⟩⟩⟩⟩) (lw_meth q927), by decide +kernel, by decide +kernel, by decide +kernel, Or.inr (Or.inr q913)⟩
theorem u_X11_13_X12 : xcu RX11 13 12 "ThirdAfter$Node" ⟨"ThirdAfter$Node", "value", "(LThirdAfter$Facts;)I"⟩ yX12_value cX12_value 2 (some .int) 1 := ⟨_, _, _, rfl, lw_app (a := [.methodLink RX11 13 ⟨"ThirdAfter$Node", "value", "(LThirdAfter$Facts;)I"⟩, .sameMethod "ThirdAfter$Node" "ThirdAfter$Node" "value" "(LThirdAfter$Facts;)I", .selects RX12 ⟨"ThirdAfter$Node", "value", "(LThirdAfter$Facts;)I"⟩ yX12_value, .instanceMethod yX12_value, .initialized RX12]) (List.forall_mem_cons.mpr ⟨q928, List.forall_mem_cons.mpr ⟨q914, List.forall_mem_cons.mpr ⟨q932, List.forall_mem_cons.mpr ⟨q919, List.forall_mem_cons.mpr ⟨q124, fun w h => absurd h List.not_mem_nil⟩⟩⟩⟩⟩) (lw_meth q920), by decide +kernel, by decide +kernel, by decide +kernel, Or.inr (Or.inr q913)⟩
theorem u_X11_13_X13 : xcu RX11 13 13 "ThirdAfter$Node" ⟨"ThirdAfter$Node", "value", "(LThirdAfter$Facts;)I"⟩ yX13_value cX13_value 4 (some .int) 1 := ⟨_, _, _, rfl, lw_app (a := [.methodLink RX11 13 ⟨"ThirdAfter$Node", "value", "(LThirdAfter$Facts;)I"⟩, .sameMethod "ThirdAfter$Node" "ThirdAfter$Node" "value" "(LThirdAfter$Facts;)I", .selects RX13 ⟨"ThirdAfter$Node", "value", "(LThirdAfter$Facts;)I"⟩ yX13_value, .instanceMethod yX13_value, .initialized RX13]) (List.forall_mem_cons.mpr ⟨q928, List.forall_mem_cons.mpr ⟨q914, List.forall_mem_cons.mpr ⟨q934, List.forall_mem_cons.mpr ⟨q923, List.forall_mem_cons.mpr ⟨q125, fun w h => absurd h List.not_mem_nil⟩⟩⟩⟩⟩) (lw_meth q924), by decide +kernel, by decide +kernel, by decide +kernel, Or.inr (Or.inr q913)⟩
theorem xnd_X11_13 : xnd RX11 13 := ⟨u_X11_13_X9, u_X11_13_X10, u_X11_13_X11, u_X11_13_X12, u_X11_13_X13⟩
theorem u_X13_20_X9 : xcu RX13 20 9 "ThirdAfter$Node" ⟨"ThirdAfter$Node", "value", "(LThirdAfter$Facts;)I"⟩ yX9_value cX9_value 2 (some .int) 1 := ⟨_, _, _, rfl, lw_app (a := [.methodLink RX13 20 ⟨"ThirdAfter$Node", "value", "(LThirdAfter$Facts;)I"⟩, .sameMethod "ThirdAfter$Node" "ThirdAfter$Node" "value" "(LThirdAfter$Facts;)I", .selects RX9 ⟨"ThirdAfter$Node", "value", "(LThirdAfter$Facts;)I"⟩ yX9_value, .instanceMethod yX9_value, .initialized RX9]) (List.forall_mem_cons.mpr ⟨q925, List.forall_mem_cons.mpr ⟨q914, List.forall_mem_cons.mpr ⟨q933, List.forall_mem_cons.mpr ⟨q921, List.forall_mem_cons.mpr ⟨q121, fun w h => absurd h List.not_mem_nil⟩⟩⟩⟩⟩) (lw_meth q922), by decide +kernel, by decide +kernel, by decide +kernel, Or.inr (Or.inr q913)⟩
theorem u_X13_20_X10 : xcu RX13 20 10 "ThirdAfter$Node" ⟨"ThirdAfter$Node", "value", "(LThirdAfter$Facts;)I"⟩ yX10_value cX10_value 2 (some .int) 1 := ⟨_, _, _, rfl, lw_app (a := [.methodLink RX13 20 ⟨"ThirdAfter$Node", "value", "(LThirdAfter$Facts;)I"⟩, .sameMethod "ThirdAfter$Node" "ThirdAfter$Node" "value" "(LThirdAfter$Facts;)I", .selects RX10 ⟨"ThirdAfter$Node", "value", "(LThirdAfter$Facts;)I"⟩ yX10_value, .instanceMethod yX10_value, .initialized RX10]) (List.forall_mem_cons.mpr ⟨q925, List.forall_mem_cons.mpr ⟨q914, List.forall_mem_cons.mpr ⟨q915, List.forall_mem_cons.mpr ⟨q916, List.forall_mem_cons.mpr ⟨q122, fun w h => absurd h List.not_mem_nil⟩⟩⟩⟩⟩) (lw_meth q917), by decide +kernel, by decide +kernel, by decide +kernel, Or.inr (Or.inr q913)⟩
theorem u_X13_20_X11 : xcu RX13 20 11 "ThirdAfter$Node" ⟨"ThirdAfter$Node", "value", "(LThirdAfter$Facts;)I"⟩ yX11_value cX11_value 2 (some .int) 1 := ⟨_, _, _, rfl, lw_app (a := [.methodLink RX13 20 ⟨"ThirdAfter$Node", "value", "(LThirdAfter$Facts;)I"⟩, .sameMethod "ThirdAfter$Node" "ThirdAfter$Node" "value" "(LThirdAfter$Facts;)I", .selects RX11 ⟨"ThirdAfter$Node", "value", "(LThirdAfter$Facts;)I"⟩ yX11_value, .instanceMethod yX11_value, .initialized RX11]) (List.forall_mem_cons.mpr ⟨q925, List.forall_mem_cons.mpr ⟨q914, List.forall_mem_cons.mpr ⟨q935, List.forall_mem_cons.mpr ⟨q926, List.forall_mem_cons.mpr ⟨q123, fun w h => absurd h List.not_mem_nil⟩⟩⟩⟩⟩) (lw_meth q927), by decide +kernel, by decide +kernel, by decide +kernel, Or.inr (Or.inr q913)⟩
theorem u_X13_20_X12 : xcu RX13 20 12 "ThirdAfter$Node" ⟨"ThirdAfter$Node", "value", "(LThirdAfter$Facts;)I"⟩ yX12_value cX12_value 2 (some .int) 1 := ⟨_, _, _, rfl, lw_app (a := [.methodLink RX13 20 ⟨"ThirdAfter$Node", "value", "(LThirdAfter$Facts;)I"⟩, .sameMethod "ThirdAfter$Node" "ThirdAfter$Node" "value" "(LThirdAfter$Facts;)I", .selects RX12 ⟨"ThirdAfter$Node", "value", "(LThirdAfter$Facts;)I"⟩ yX12_value, .instanceMethod yX12_value, .initialized RX12]) (List.forall_mem_cons.mpr ⟨q925, List.forall_mem_cons.mpr ⟨q914, List.forall_mem_cons.mpr ⟨q932, List.forall_mem_cons.mpr ⟨q919, List.forall_mem_cons.mpr ⟨q124, fun w h => absurd h List.not_mem_nil⟩⟩⟩⟩⟩) (lw_meth q920), by decide +kernel, by decide +kernel, by decide +kernel, Or.inr (Or.inr q913)⟩
theorem u_X13_20_X13 : xcu RX13 20 13 "ThirdAfter$Node" ⟨"ThirdAfter$Node", "value", "(LThirdAfter$Facts;)I"⟩ yX13_value cX13_value 4 (some .int) 1 := ⟨_, _, _, rfl, lw_app (a := [.methodLink RX13 20 ⟨"ThirdAfter$Node", "value", "(LThirdAfter$Facts;)I"⟩, .sameMethod "ThirdAfter$Node" "ThirdAfter$Node" "value" "(LThirdAfter$Facts;)I", .selects RX13 ⟨"ThirdAfter$Node", "value", "(LThirdAfter$Facts;)I"⟩ yX13_value, .instanceMethod yX13_value, .initialized RX13]) (List.forall_mem_cons.mpr ⟨q925, List.forall_mem_cons.mpr ⟨q914, List.forall_mem_cons.mpr ⟨q934, List.forall_mem_cons.mpr ⟨q923, List.forall_mem_cons.mpr ⟨q125, fun w h => absurd h List.not_mem_nil⟩⟩⟩⟩⟩) (lw_meth q924), by decide +kernel, by decide +kernel, by decide +kernel, Or.inr (Or.inr q913)⟩
theorem xnd_X13_20 : xnd RX13 20 := ⟨u_X13_20_X9, u_X13_20_X10, u_X13_20_X11, u_X13_20_X12, u_X13_20_X13⟩
theorem u_X0_147_X9 : xcu RX0 147 9 "ThirdAfter$Node" ⟨"ThirdAfter$Node", "value", "(LThirdAfter$Facts;)I"⟩ yX9_value cX9_value 2 (some .int) 1 := ⟨_, _, _, rfl, lw_app (a := [.methodLink RX0 147 ⟨"ThirdAfter$Node", "value", "(LThirdAfter$Facts;)I"⟩, .sameMethod "ThirdAfter$Node" "ThirdAfter$Node" "value" "(LThirdAfter$Facts;)I", .selects RX9 ⟨"ThirdAfter$Node", "value", "(LThirdAfter$Facts;)I"⟩ yX9_value, .instanceMethod yX9_value, .initialized RX9]) (List.forall_mem_cons.mpr ⟨q912, List.forall_mem_cons.mpr ⟨q914, List.forall_mem_cons.mpr ⟨q933, List.forall_mem_cons.mpr ⟨q921, List.forall_mem_cons.mpr ⟨q121, fun w h => absurd h List.not_mem_nil⟩⟩⟩⟩⟩) (lw_meth q922), by decide +kernel, by decide +kernel, by decide +kernel, Or.inr (Or.inr q913)⟩
theorem u_X0_147_X10 : xcu RX0 147 10 "ThirdAfter$Node" ⟨"ThirdAfter$Node", "value", "(LThirdAfter$Facts;)I"⟩ yX10_value cX10_value 2 (some .int) 1 := ⟨_, _, _, rfl, lw_app (a := [.methodLink RX0 147 ⟨"ThirdAfter$Node", "value", "(LThirdAfter$Facts;)I"⟩, .sameMethod "ThirdAfter$Node" "ThirdAfter$Node" "value" "(LThirdAfter$Facts;)I", .selects RX10 ⟨"ThirdAfter$Node", "value", "(LThirdAfter$Facts;)I"⟩ yX10_value, .instanceMethod yX10_value, .initialized RX10]) (List.forall_mem_cons.mpr ⟨q912, List.forall_mem_cons.mpr ⟨q914, List.forall_mem_cons.mpr ⟨q915, List.forall_mem_cons.mpr ⟨q916, List.forall_mem_cons.mpr ⟨q122, fun w h => absurd h List.not_mem_nil⟩⟩⟩⟩⟩) (lw_meth q917), by decide +kernel, by decide +kernel, by decide +kernel, Or.inr (Or.inr q913)⟩
theorem u_X0_147_X11 : xcu RX0 147 11 "ThirdAfter$Node" ⟨"ThirdAfter$Node", "value", "(LThirdAfter$Facts;)I"⟩ yX11_value cX11_value 2 (some .int) 1 := ⟨_, _, _, rfl, lw_app (a := [.methodLink RX0 147 ⟨"ThirdAfter$Node", "value", "(LThirdAfter$Facts;)I"⟩, .sameMethod "ThirdAfter$Node" "ThirdAfter$Node" "value" "(LThirdAfter$Facts;)I", .selects RX11 ⟨"ThirdAfter$Node", "value", "(LThirdAfter$Facts;)I"⟩ yX11_value, .instanceMethod yX11_value, .initialized RX11]) (List.forall_mem_cons.mpr ⟨q912, List.forall_mem_cons.mpr ⟨q914, List.forall_mem_cons.mpr ⟨q935, List.forall_mem_cons.mpr ⟨q926, List.forall_mem_cons.mpr ⟨q123, fun w h => absurd h List.not_mem_nil⟩⟩⟩⟩⟩) (lw_meth q927), by decide +kernel, by decide +kernel, by decide +kernel, Or.inr (Or.inr q913)⟩
theorem u_X0_147_X12 : xcu RX0 147 12 "ThirdAfter$Node" ⟨"ThirdAfter$Node", "value", "(LThirdAfter$Facts;)I"⟩ yX12_value cX12_value 2 (some .int) 1 := ⟨_, _, _, rfl, lw_app (a := [.methodLink RX0 147 ⟨"ThirdAfter$Node", "value", "(LThirdAfter$Facts;)I"⟩, .sameMethod "ThirdAfter$Node" "ThirdAfter$Node" "value" "(LThirdAfter$Facts;)I", .selects RX12 ⟨"ThirdAfter$Node", "value", "(LThirdAfter$Facts;)I"⟩ yX12_value, .instanceMethod yX12_value, .initialized RX12]) (List.forall_mem_cons.mpr ⟨q912, List.forall_mem_cons.mpr ⟨q914, List.forall_mem_cons.mpr ⟨q932, List.forall_mem_cons.mpr ⟨q919, List.forall_mem_cons.mpr ⟨q124, fun w h => absurd h List.not_mem_nil⟩⟩⟩⟩⟩) (lw_meth q920), by decide +kernel, by decide +kernel, by decide +kernel, Or.inr (Or.inr q913)⟩
theorem u_X0_147_X13 : xcu RX0 147 13 "ThirdAfter$Node" ⟨"ThirdAfter$Node", "value", "(LThirdAfter$Facts;)I"⟩ yX13_value cX13_value 4 (some .int) 1 := ⟨_, _, _, rfl, lw_app (a := [.methodLink RX0 147 ⟨"ThirdAfter$Node", "value", "(LThirdAfter$Facts;)I"⟩, .sameMethod "ThirdAfter$Node" "ThirdAfter$Node" "value" "(LThirdAfter$Facts;)I", .selects RX13 ⟨"ThirdAfter$Node", "value", "(LThirdAfter$Facts;)I"⟩ yX13_value, .instanceMethod yX13_value, .initialized RX13]) (List.forall_mem_cons.mpr ⟨q912, List.forall_mem_cons.mpr ⟨q914, List.forall_mem_cons.mpr ⟨q934, List.forall_mem_cons.mpr ⟨q923, List.forall_mem_cons.mpr ⟨q125, fun w h => absurd h List.not_mem_nil⟩⟩⟩⟩⟩) (lw_meth q924), by decide +kernel, by decide +kernel, by decide +kernel, Or.inr (Or.inr q913)⟩
theorem xnd_X0_147 : xnd RX0 147 := ⟨u_X0_147_X9, u_X0_147_X10, u_X0_147_X11, u_X0_147_X12, u_X0_147_X13⟩
set_option maxHeartbeats 4000000 in
theorem k12_value (l : Launch) (G : xG_T) (n : Nat) (Ty : Nat → xs_T) (F : xF_T) (hC : WC n Ty F) (I : xI_T) (L : xL_T) (d q : Nat) (hq : q < n) (hT : Ty q = some (.inl 12)) : CE l (d + 3) yX12_value cX12_value 2 (some .int) G n Ty F [.ref (xb G + q), .ref (xb G + 4)] I L (some (.int (I q 0))) (I) := by
  refine Cg.intro (cls := RX12) (pad := 0) (lv := [some (.ref (xb G + q)), some (.ref (xb G + 4))]) rfl (by decide) (Nat.le_of_ble_eq_true rfl) rfl (fun Θ h => ?_)
  refine x_aload_n h dX12_value_0 rfl ?_
  refine x_geti h g_X12_7 hq hT rfl dX12_value_1 ?_
  exact x_iret h dX12_value_4 rfl (xpE.to rfl rfl rfl rfl)
set_option maxHeartbeats 4000000 in
theorem k9_value (l : Launch) (G : xG_T) (n : Nat) (Ty : Nat → xs_T) (F : xF_T) (hC : WC n Ty F) (I : xI_T) (L : xL_T) (d q : Nat) (hq : q < n) (hT : Ty q = some (.inl 9)) (ho : okl (I q 0)) : CE l (d + 3) yX9_value cX9_value 2 (some .int) G n Ty F [.ref (xb G + q), .ref (xb G + 4)] I L (some (.int (I 5 (ix (I q 0))))) (I) := by
  refine Cg.intro (cls := RX9) (pad := 0) (lv := [some (.ref (xb G + q)), some (.ref (xb G + 4))]) rfl (by decide) (Nat.le_of_ble_eq_true rfl) rfl (fun Θ h => ?_)
  refine x_aload_n h dX9_value_0 rfl ?_
  refine x_getrN h (j := 5) g_X9_13 (mlt hC.1 rfl) (hC.2.1 _ _ rfl) (by decide) (hC.2.2 _ _ _ rfl) dX9_value_1 ?_
  refine x_aload_n h dX9_value_4 rfl ?_
  refine x_geti h g_X9_7 hq hT rfl dX9_value_5 ?_
  refine x_iald h (mlt hC.1 rfl) (hC.2.1 _ _ rfl) (okl_in ho) _ rfl dX9_value_8 ?_
  exact x_iret h dX9_value_9 rfl (xpE.to rfl rfl rfl rfl)
set_option maxHeartbeats 4000000 in
theorem k10_value (l : Launch) (G : xG_T) (n : Nat) (Ty : Nat → xs_T) (F : xF_T) (hC : WC n Ty F) (I : xI_T) (L : xL_T) (d q : Nat) (hV : ValP d) (hq : q < n) (hT : Ty q = some (.inl 10)) (r : Nat) (e : List Int32) (hr : F q 0 = some r) (he : nodeIs n Ty I F d r e) (ns : Nat → Int32) (hN : NM I ns) (v : Int32) (hv : ∀ s : List Int32, evs ns e s = v :: s) : CE l (d + 3) yX10_value cX10_value 2 (some .int) G n Ty F [.ref (xb G + q), .ref (xb G + 4)] I L (some (.int (if v = 0 then 1 else 0))) (I) := by
  refine Cg.intro (cls := RX10) (pad := 0) (lv := [some (.ref (xb G + q)), some (.ref (xb G + 4))]) rfl (by decide) (Nat.le_of_ble_eq_true rfl) rfl (fun Θ h => ?_)
  refine x_aload_n h dX10_value_0 rfl ?_
  refine x_getr h (j := r) g_X10_7 hq hT (by decide) hr dX10_value_1 ?_
  refine x_aload_n h dX10_value_4 rfl ?_
  refine x_node h hV hC he hN hv xnd_X10_13 dX10_value_5 (by omega) ⟨by decide, by decide⟩ (Nat.le_of_ble_eq_true rfl) ?_
  refine x_if_ne h 15 dX10_value_8 rfl (fun c8 => ?_) (fun c8 => ?_)
  · skip
    refine x_iconst h dX10_value_15 (0) rfl ?_
    exact x_iret h dX10_value_16 rfl (xpE.to (by first | rw [if_pos c8] | rw [if_neg c8]) rfl rfl rfl)
  · skip
    refine x_iconst h dX10_value_11 (1) rfl ?_
    refine x_goto h 16 dX10_value_12 rfl ?_
    exact x_iret h dX10_value_16 rfl (xpE.to (by first | rw [if_pos c8] | rw [if_neg c8]) rfl rfl rfl)
set_option maxHeartbeats 4000000 in
theorem k11_value (l : Launch) (G : xG_T) (n : Nat) (Ty : Nat → xs_T) (F : xF_T) (hC : WC n Ty F) (I : xI_T) (L : xL_T) (d q : Nat) (hV : ValP d) (hq : q < n) (hT : Ty q = some (.inl 11)) (r : Nat) (e : List Int32) (hr : F q 0 = some r) (he : nodeIs n Ty I F d r e) (ns : Nat → Int32) (hN : NM I ns) (v : Int32) (hv : ∀ s : List Int32, evs ns e s = v :: s) : CE l (d + 3) yX11_value cX11_value 2 (some .int) G n Ty F [.ref (xb G + q), .ref (xb G + 4)] I L (some (.int (-v))) (I) := by
  refine Cg.intro (cls := RX11) (pad := 0) (lv := [some (.ref (xb G + q)), some (.ref (xb G + 4))]) rfl (by decide) (Nat.le_of_ble_eq_true rfl) rfl (fun Θ h => ?_)
  refine x_aload_n h dX11_value_0 rfl ?_
  refine x_getr h (j := r) g_X11_7 hq hT (by decide) hr dX11_value_1 ?_
  refine x_aload_n h dX11_value_4 rfl ?_
  refine x_node h hV hC he hN hv xnd_X11_13 dX11_value_5 (by omega) ⟨by decide, by decide⟩ (Nat.le_of_ble_eq_true rfl) ?_
  refine x_ineg h dX11_value_8 ?_
  exact x_iret h dX11_value_9 rfl (xpE.to rfl rfl rfl rfl)
def k_is (b : Int32) : Int32 := if b = 0 then 0 else 1
set_option maxHeartbeats 4000000 in
theorem k13_is (l : Launch) (G : xG_T) (n : Nat) (Ty : Nat → xs_T) (F : xF_T) (hC : WC n Ty F) (I : xI_T) (L : xL_T) (b : Int32)  : CE l (0) yX13_is cX13_is 1 (some .int) G n Ty F [.int b] I L (some (.int (k_is b))) (I) := by
  refine Cg.intro (cls := RX13) (pad := 0) (lv := [some (.int b)]) rfl (by decide) (Nat.le_of_ble_eq_true rfl) rfl (fun Θ h => ?_)
  refine x_iload_n h dX13_is_0 rfl ?_
  refine x_if_eq h 8 dX13_is_1 rfl (fun c1 => ?_) (fun c1 => ?_)
  · skip
    refine x_iconst h dX13_is_8 (0) rfl ?_
    exact x_iret h dX13_is_9 rfl (xpE.to (by unfold k_is; first | rw [if_pos c1] | rw [if_neg c1]) rfl rfl rfl)
  · skip
    refine x_iconst h dX13_is_4 (1) rfl ?_
    refine x_goto h 9 dX13_is_5 rfl ?_
    exact x_iret h dX13_is_9 rfl (xpE.to (by unfold k_is; first | rw [if_pos c1] | rw [if_neg c1]) rfl rfl rfl)
set_option maxHeartbeats 4000000 in
theorem k13_value (l : Launch) (G : xG_T) (n : Nat) (Ty : Nat → xs_T) (F : xF_T) (hC : WC n Ty F) (I : xI_T) (L : xL_T) (d q : Nat) (hV : ValP d) (hq : q < n) (hT : Ty q = some (.inl 13)) (ho : oks (I q 0)) (r1 : Nat) (r2 : Nat) (e1 : List Int32) (e2 : List Int32) (hr1 : F q 1 = some r1) (hr2 : F q 2 = some r2) (he1 : nodeIs n Ty I F d r1 e1) (he2 : nodeIs n Ty I F d r2 e2) (ns : Nat → Int32) (hN : NM I ns) (v : Int32) (hv : ∀ s : List Int32, evs ns e1 s = v :: s) (w : Int32) (hw : ∀ s : List Int32, evs ns e2 s = w :: s) : CE l (d + 3) yX13_value cX13_value 4 (some .int) G n Ty F [.ref (xb G + q), .ref (xb G + 4)] I L (some (.int (m_both (sgc (I q 0)) v w))) (I) := by
  refine Cg.intro (cls := RX13) (pad := 2) (lv := [some (.ref (xb G + q)), some (.ref (xb G + 4)), none, none]) rfl (by decide) (Nat.le_of_ble_eq_true rfl) rfl (fun Θ h => ?_)
  refine x_aload_n h dX13_value_0 rfl ?_
  refine x_getr h (j := r1) g_X13_13 hq hT (by decide) hr1 dX13_value_1 ?_
  refine x_aload_n h dX13_value_4 rfl ?_
  refine x_node h hV hC he1 hN hv xnd_X13_20 dX13_value_5 (by omega) ⟨by decide, by decide⟩ (Nat.le_of_ble_eq_true rfl) ?_
  refine x_istore_n h dX13_value_8 rfl (by decide) [some (.ref (xb G + q)), some (.ref (xb G + 4)), some (.int v), none] rfl ?_
  refine x_aload_n h dX13_value_9 rfl ?_
  refine x_getr h (j := r2) g_X13_17 hq hT (by decide) hr2 dX13_value_10 ?_
  refine x_aload_n h dX13_value_13 rfl ?_
  refine x_node h hV hC he2 hN hw xnd_X13_20 dX13_value_14 (by omega) ⟨by decide, by decide⟩ (Nat.le_of_ble_eq_true rfl) ?_
  refine x_istore_n h dX13_value_17 rfl (by decide) [some (.ref (xb G + q)), some (.ref (xb G + 4)), some (.int v), some (.int w)] rfl ?_
  refine x_aload_n h dX13_value_18 rfl ?_
  refine x_geti h g_X13_7 hq hT rfl dX13_value_19 ?_
  refine x_nmi (fun v22 ev22 => ?_)
  by_cases s22_37 : v22 = 37
  · skip
    refine x_tabIn h 174 dX13_value_22 (by rw [s22_37]; decide) (by rw [s22_37]; decide) (by rw [s22_37]; rfl) rfl ?_
    refine x_iload_n h dX13_value_174 rfl ?_
    refine x_if_eq h 183 dX13_value_175 rfl (fun c175 => ?_) (fun c175 => ?_)
    · skip
      refine x_iconst h dX13_value_183 (0) rfl ?_
      refine x_goto h 190 dX13_value_184 rfl ?_
      exact x_iret h dX13_value_190 rfl (xpE.to (by rw [← ev22, s22_37, b37]; first | rw [if_pos c175] | rw [if_neg c175, if_pos c180] | rw [if_neg c175, if_neg c180]) rfl rfl rfl)
    · skip
      refine x_iload_n h dX13_value_178 rfl ?_
      refine x_iconst h dX13_value_179 (-1) rfl ?_
      refine x_icmp_ne h 187 dX13_value_180 rfl (fun c180 => ?_) (fun c180 => ?_)
      · skip
        refine x_iload_n h dX13_value_187 rfl ?_
        refine x_iload_n h dX13_value_188 rfl ?_
        refine x_irem h dX13_value_189 c175 ?_
        exact x_iret h dX13_value_190 rfl (xpE.to (by rw [← ev22, s22_37, b37]; first | rw [if_pos c175] | rw [if_neg c175, if_pos c180] | rw [if_neg c175, if_neg c180]) rfl rfl rfl)
      · skip
        refine x_iconst h dX13_value_183 (0) rfl ?_
        refine x_goto h 190 dX13_value_184 rfl ?_
        exact x_iret h dX13_value_190 rfl (xpE.to (by rw [← ev22, s22_37, b37]; first | rw [if_pos c175] | rw [if_neg c175, if_pos c180] | rw [if_neg c175, if_neg c180]) rfl rfl rfl)
  by_cases s22_38 : v22 = 38
  · skip
    refine x_tabIn h 233 dX13_value_22 (by rw [s22_38]; decide) (by rw [s22_38]; decide) (by rw [s22_38]; rfl) rfl ?_
    refine x_iload_n h dX13_value_233 rfl ?_
    refine x_if_eq h 245 dX13_value_234 rfl (fun c234 => ?_) (fun c234 => ?_)
    · skip
      refine x_iconst h dX13_value_245 (0) rfl ?_
      refine x_callSEi h (As := [.int _]) (k13_is l G n _ _ hC _ _ _ ) m_X13_24 dX13_value_246 ⟨by omega, by decide⟩ ⟨by decide, by decide⟩ rfl (Nat.le_of_ble_eq_true rfl) ?_
      exact x_iret h dX13_value_249 rfl (xpE.to (by rw [← ev22, s22_38, b38]; first | (rw [if_pos c234]; rfl) | (rw [if_neg c234, if_pos c238]; rfl) | (rw [if_neg c234, if_neg c238]; rfl)) rfl rfl rfl)
    · skip
      refine x_iload_n h dX13_value_237 rfl ?_
      refine x_if_eq h 245 dX13_value_238 rfl (fun c238 => ?_) (fun c238 => ?_)
      · skip
        refine x_iconst h dX13_value_245 (0) rfl ?_
        refine x_callSEi h (As := [.int _]) (k13_is l G n _ _ hC _ _ _ ) m_X13_24 dX13_value_246 ⟨by omega, by decide⟩ ⟨by decide, by decide⟩ rfl (Nat.le_of_ble_eq_true rfl) ?_
        exact x_iret h dX13_value_249 rfl (xpE.to (by rw [← ev22, s22_38, b38]; first | (rw [if_pos c234]; rfl) | (rw [if_neg c234, if_pos c238]; rfl) | (rw [if_neg c234, if_neg c238]; rfl)) rfl rfl rfl)
      · skip
        refine x_iconst h dX13_value_241 (1) rfl ?_
        refine x_goto h 246 dX13_value_242 rfl ?_
        refine x_callSEi h (As := [.int _]) (k13_is l G n _ _ hC _ _ _ ) m_X13_24 dX13_value_246 ⟨by omega, by decide⟩ ⟨by decide, by decide⟩ rfl (Nat.le_of_ble_eq_true rfl) ?_
        exact x_iret h dX13_value_249 rfl (xpE.to (by rw [← ev22, s22_38, b38]; first | (rw [if_pos c234]; rfl) | (rw [if_neg c234, if_pos c238]; rfl) | (rw [if_neg c234, if_neg c238]; rfl)) rfl rfl rfl)
  by_cases s22_42 : v22 = 42
  · skip
    refine x_tabIn h 148 dX13_value_22 (by rw [s22_42]; decide) (by rw [s22_42]; decide) (by rw [s22_42]; rfl) rfl ?_
    refine x_iload_n h dX13_value_148 rfl ?_
    refine x_iload_n h dX13_value_149 rfl ?_
    refine x_imul h dX13_value_150 ?_
    exact x_iret h dX13_value_151 rfl (xpE.to (by rw [← ev22, s22_42, b42]) rfl rfl rfl)
  by_cases s22_43 : v22 = 43
  · skip
    refine x_tabIn h 140 dX13_value_22 (by rw [s22_43]; decide) (by rw [s22_43]; decide) (by rw [s22_43]; rfl) rfl ?_
    refine x_iload_n h dX13_value_140 rfl ?_
    refine x_iload_n h dX13_value_141 rfl ?_
    refine x_iadd h dX13_value_142 ?_
    exact x_iret h dX13_value_143 rfl (xpE.to (by rw [← ev22, s22_43, b43]) rfl rfl rfl)
  by_cases s22_45 : v22 = 45
  · skip
    refine x_tabIn h 144 dX13_value_22 (by rw [s22_45]; decide) (by rw [s22_45]; decide) (by rw [s22_45]; rfl) rfl ?_
    refine x_iload_n h dX13_value_144 rfl ?_
    refine x_iload_n h dX13_value_145 rfl ?_
    refine x_isub h dX13_value_146 ?_
    exact x_iret h dX13_value_147 rfl (xpE.to (by rw [← ev22, s22_45, b45]) rfl rfl rfl)
  by_cases s22_47 : v22 = 47
  · skip
    refine x_tabIn h 152 dX13_value_22 (by rw [s22_47]; decide) (by rw [s22_47]; decide) (by rw [s22_47]; rfl) rfl ?_
    refine x_iload_n h dX13_value_152 rfl ?_
    refine x_if_ne h 160 dX13_value_153 rfl (fun c153 => ?_) (fun c153 => ?_)
    · skip
      refine x_iload_n h dX13_value_160 rfl ?_
      refine x_iconst h dX13_value_161 (-1) rfl ?_
      refine x_icmp_ne h 170 dX13_value_162 rfl (fun c162 => ?_) (fun c162 => ?_)
      · skip
        refine x_iload_n h dX13_value_170 rfl ?_
        refine x_iload_n h dX13_value_171 rfl ?_
        refine x_idiv h dX13_value_172 c153 ?_
        exact x_iret h dX13_value_173 rfl (xpE.to (by rw [← ev22, s22_47, b47]; first | rw [if_pos c153] | rw [if_neg c153, if_pos c162] | rw [if_neg c153, if_neg c162]) rfl rfl rfl)
      · skip
        refine x_iload_n h dX13_value_165 rfl ?_
        refine x_ineg h dX13_value_166 ?_
        refine x_goto h 173 dX13_value_167 rfl ?_
        exact x_iret h dX13_value_173 rfl (xpE.to (by rw [← ev22, s22_47, b47]; first | rw [if_pos c153] | rw [if_neg c153, if_pos c162] | rw [if_neg c153, if_neg c162]) rfl rfl rfl)
    · skip
      refine x_iconst h dX13_value_156 (0) rfl ?_
      refine x_goto h 173 dX13_value_157 rfl ?_
      exact x_iret h dX13_value_173 rfl (xpE.to (by rw [← ev22, s22_47, b47]; first | rw [if_pos c153] | rw [if_neg c153, if_pos c162] | rw [if_neg c153, if_neg c162]) rfl rfl rfl)
  by_cases s22_60 : v22 = 60
  · skip
    refine x_tabIn h 191 dX13_value_22 (by rw [s22_60]; decide) (by rw [s22_60]; decide) (by rw [s22_60]; rfl) rfl ?_
    refine x_iload_n h dX13_value_191 rfl ?_
    refine x_iload_n h dX13_value_192 rfl ?_
    refine x_icmp_ge h 200 dX13_value_193 rfl (fun c193 => ?_) (fun c193 => ?_)
    · skip
      have n193 := Int32.not_lt.mpr c193
      refine x_iconst h dX13_value_200 (0) rfl ?_
      refine x_callSEi h (As := [.int _]) (k13_is l G n _ _ hC _ _ _ ) m_X13_24 dX13_value_201 ⟨by omega, by decide⟩ ⟨by decide, by decide⟩ rfl (Nat.le_of_ble_eq_true rfl) ?_
      exact x_iret h dX13_value_204 rfl (xpE.to (by rw [← ev22, s22_60, b60]; first | (rw [if_pos n193]; rfl) | (rw [if_neg n193]; rfl)) rfl rfl rfl)
    · skip
      have n193 := Int32.not_le.mp c193
      refine x_iconst h dX13_value_196 (1) rfl ?_
      refine x_goto h 201 dX13_value_197 rfl ?_
      refine x_callSEi h (As := [.int _]) (k13_is l G n _ _ hC _ _ _ ) m_X13_24 dX13_value_201 ⟨by omega, by decide⟩ ⟨by decide, by decide⟩ rfl (Nat.le_of_ble_eq_true rfl) ?_
      exact x_iret h dX13_value_204 rfl (xpE.to (by rw [← ev22, s22_60, b60]; first | (rw [if_pos n193]; rfl) | (rw [if_neg n193]; rfl)) rfl rfl rfl)
  by_cases s22_61 : v22 = 61
  · skip
    refine x_tabIn h 205 dX13_value_22 (by rw [s22_61]; decide) (by rw [s22_61]; decide) (by rw [s22_61]; rfl) rfl ?_
    refine x_iload_n h dX13_value_205 rfl ?_
    refine x_iload_n h dX13_value_206 rfl ?_
    refine x_icmp_ne h 214 dX13_value_207 rfl (fun c207 => ?_) (fun c207 => ?_)
    · skip
      refine x_iconst h dX13_value_214 (0) rfl ?_
      refine x_callSEi h (As := [.int _]) (k13_is l G n _ _ hC _ _ _ ) m_X13_24 dX13_value_215 ⟨by omega, by decide⟩ ⟨by decide, by decide⟩ rfl (Nat.le_of_ble_eq_true rfl) ?_
      exact x_iret h dX13_value_218 rfl (xpE.to (by rw [← ev22, s22_61, b61]; first | (rw [if_pos c207]; rfl) | (rw [if_neg c207]; rfl)) rfl rfl rfl)
    · skip
      refine x_iconst h dX13_value_210 (1) rfl ?_
      refine x_goto h 215 dX13_value_211 rfl ?_
      refine x_callSEi h (As := [.int _]) (k13_is l G n _ _ hC _ _ _ ) m_X13_24 dX13_value_215 ⟨by omega, by decide⟩ ⟨by decide, by decide⟩ rfl (Nat.le_of_ble_eq_true rfl) ?_
      exact x_iret h dX13_value_218 rfl (xpE.to (by rw [← ev22, s22_61, b61]; first | (rw [if_pos c207]; rfl) | (rw [if_neg c207]; rfl)) rfl rfl rfl)
  by_cases s22_62 : v22 = 62
  · skip
    refine x_tabIn h 219 dX13_value_22 (by rw [s22_62]; decide) (by rw [s22_62]; decide) (by rw [s22_62]; rfl) rfl ?_
    refine x_iload_n h dX13_value_219 rfl ?_
    refine x_iload_n h dX13_value_220 rfl ?_
    refine x_icmp_le h 228 dX13_value_221 rfl (fun c221 => ?_) (fun c221 => ?_)
    · skip
      have n221 := Int32.not_lt.mpr c221
      refine x_iconst h dX13_value_228 (0) rfl ?_
      refine x_callSEi h (As := [.int _]) (k13_is l G n _ _ hC _ _ _ ) m_X13_24 dX13_value_229 ⟨by omega, by decide⟩ ⟨by decide, by decide⟩ rfl (Nat.le_of_ble_eq_true rfl) ?_
      exact x_iret h dX13_value_232 rfl (xpE.to (by rw [← ev22, s22_62, b62]; first | (rw [if_neg n221]; rfl) | (rw [if_pos n221]; rfl)) rfl rfl rfl)
    · skip
      have n221 := Int32.not_le.mp c221
      refine x_iconst h dX13_value_224 (1) rfl ?_
      refine x_goto h 229 dX13_value_225 rfl ?_
      refine x_callSEi h (As := [.int _]) (k13_is l G n _ _ hC _ _ _ ) m_X13_24 dX13_value_229 ⟨by omega, by decide⟩ ⟨by decide, by decide⟩ rfl (Nat.le_of_ble_eq_true rfl) ?_
      exact x_iret h dX13_value_232 rfl (xpE.to (by rw [← ev22, s22_62, b62]; first | (rw [if_neg n221]; rfl) | (rw [if_pos n221]; rfl)) rfl rfl rfl)
  refine x_tabD h 250 dX13_value_22 rfl (fun j hj => match j, hj with | 0, _ => Or.inr (xsw_ne s22_37 rfl) | 1, _ => Or.inr (xsw_ne s22_38 rfl) | 2, _ => Or.inl rfl | 3, _ => Or.inl rfl | 4, _ => Or.inl rfl | 5, _ => Or.inr (xsw_ne s22_42 rfl) | 6, _ => Or.inr (xsw_ne s22_43 rfl) | 7, _ => Or.inl rfl | 8, _ => Or.inr (xsw_ne s22_45 rfl) | 9, _ => Or.inl rfl | 10, _ => Or.inr (xsw_ne s22_47 rfl) | 11, _ => Or.inl rfl | 12, _ => Or.inl rfl | 13, _ => Or.inl rfl | 14, _ => Or.inl rfl | 15, _ => Or.inl rfl | 16, _ => Or.inl rfl | 17, _ => Or.inl rfl | 18, _ => Or.inl rfl | 19, _ => Or.inl rfl | 20, _ => Or.inl rfl | 21, _ => Or.inl rfl | 22, _ => Or.inl rfl | 23, _ => Or.inr (xsw_ne s22_60 rfl) | 24, _ => Or.inr (xsw_ne s22_61 rfl) | 25, _ => Or.inr (xsw_ne s22_62 rfl) | j + 26, hj => absurd hj (by simp)) rfl ?_
  have s22_124 : v22 = 124 := by rw [ev22]; rw [ev22] at s22_37 s22_38 s22_42 s22_43 s22_45 s22_47 s22_60 s22_61 s22_62; exact oks_or ho s22_37 s22_38 s22_42 s22_43 s22_45 s22_47 s22_60 s22_61 s22_62
  refine x_iload_n h dX13_value_250 rfl ?_
  refine x_if_ne h 258 dX13_value_251 rfl (fun c251 => ?_) (fun c251 => ?_)
  · skip
    refine x_iconst h dX13_value_258 (1) rfl ?_
    refine x_goto h 263 dX13_value_259 rfl ?_
    refine x_callSEi h (As := [.int _]) (k13_is l G n _ _ hC _ _ _ ) m_X13_24 dX13_value_263 ⟨by omega, by decide⟩ ⟨by decide, by decide⟩ rfl (Nat.le_of_ble_eq_true rfl) ?_
    exact x_iret h dX13_value_266 rfl (xpE.to (by rw [← ev22, s22_124, b124]; first | (rw [if_pos c251]; rfl) | (rw [if_neg c251, if_pos c255]; rfl) | (rw [if_neg c251, if_neg c255]; rfl) | (rw [if_neg (not_not_intro c251), if_neg (not_not_intro c255)]; rfl) | (rw [if_neg (not_not_intro c251), if_pos c255]; rfl)) rfl rfl rfl)
  · skip
    refine x_iload_n h dX13_value_254 rfl ?_
    refine x_if_eq h 262 dX13_value_255 rfl (fun c255 => ?_) (fun c255 => ?_)
    · skip
      refine x_iconst h dX13_value_262 (0) rfl ?_
      refine x_callSEi h (As := [.int _]) (k13_is l G n _ _ hC _ _ _ ) m_X13_24 dX13_value_263 ⟨by omega, by decide⟩ ⟨by decide, by decide⟩ rfl (Nat.le_of_ble_eq_true rfl) ?_
      exact x_iret h dX13_value_266 rfl (xpE.to (by rw [← ev22, s22_124, b124]; first | (rw [if_pos c251]; rfl) | (rw [if_neg c251, if_pos c255]; rfl) | (rw [if_neg c251, if_neg c255]; rfl) | (rw [if_neg (not_not_intro c251), if_neg (not_not_intro c255)]; rfl) | (rw [if_neg (not_not_intro c251), if_pos c255]; rfl)) rfl rfl rfl)
    · skip
      refine x_iconst h dX13_value_258 (1) rfl ?_
      refine x_goto h 263 dX13_value_259 rfl ?_
      refine x_callSEi h (As := [.int _]) (k13_is l G n _ _ hC _ _ _ ) m_X13_24 dX13_value_263 ⟨by omega, by decide⟩ ⟨by decide, by decide⟩ rfl (Nat.le_of_ble_eq_true rfl) ?_
      exact x_iret h dX13_value_266 rfl (xpE.to (by rw [← ev22, s22_124, b124]; first | (rw [if_pos c251]; rfl) | (rw [if_neg c251, if_pos c255]; rfl) | (rw [if_neg c251, if_neg c255]; rfl) | (rw [if_neg (not_not_intro c251), if_neg (not_not_intro c255)]; rfl) | (rw [if_neg (not_not_intro c251), if_pos c255]; rfl)) rfl rfl rfl)
theorem valP_0 : ValP 0 := fun l G n Ty F hC I L q c h => h.elim
theorem ty_ne {Ty : Nat → xs_T} {q a b : Nat} {P : Prop} (h : Ty q = some (.inl a)) (hab : a ≠ b) (h2 : Ty q = some (.inl b)) : P := by
  rw [h] at h2
  exact absurd (Sum.inl.inj (Option.some.inj h2)) hab
theorem valP : ∀ d : Nat, ValP d
  | 0 => valP_0
  | d + 1 => by
    intro l G n Ty F hC I L q c hn nm hN v hv
    have ih := valP d
    obtain ⟨hq1, hq, h⟩ := hn
    rcases h with ⟨a, u, hu, e0, rfl⟩ | ⟨a, h1, rfl⟩ | ⟨a, r, e, h2, h3, rfl⟩ | ⟨a, r, e, h2, h3, rfl⟩ | ⟨a, h0, r1, r2, e1, e2, h1, h2, h3, h4, rfl⟩
    · have ev : v = I q 0 := by
        have z := (hv []).symm.trans (ev1_num hu)
        rw [e0]
        exact (List.cons.inj z).1
      subst ev
      exact ⟨ty_ne a (by decide), ty_ne a (by decide), ty_ne a (by decide), fun _ => k12_value l G n Ty F hC I L d q hq a, ty_ne a (by decide)⟩
    · have ev : v = I 5 (ix (I q 0)) := by
        have z := (hv []).symm.trans (ev1_name h1)
        rw [hN.at h1]
        exact (List.cons.inj z).1
      subst ev
      exact ⟨fun _ => k9_value l G n Ty F hC I L d q hq a h1, ty_ne a (by decide), ty_ne a (by decide), ty_ne a (by decide), ty_ne a (by decide)⟩
    · obtain ⟨u, hu⟩ := node_ev nm d r e h3
      have ev : v = if u = 0 then 1 else 0 := by
        have z := hv []
        rw [evs_app, hu] at z
        exact (List.cons.inj z).1.symm
      subst ev
      exact ⟨ty_ne a (by decide), fun _ => k10_value l G n Ty F hC I L d q ih hq a r e h2 h3 nm hN u hu, ty_ne a (by decide), ty_ne a (by decide), ty_ne a (by decide)⟩
    · obtain ⟨u, hu⟩ := node_ev nm d r e h3
      have ev : v = -u := by
        have z := hv []
        rw [evs_app, hu] at z
        exact (List.cons.inj z).1.symm
      subst ev
      exact ⟨ty_ne a (by decide), ty_ne a (by decide), fun _ => k11_value l G n Ty F hC I L d q ih hq a r e h2 h3 nm hN u hu, ty_ne a (by decide), ty_ne a (by decide)⟩
    · obtain ⟨u, hu⟩ := node_ev nm d r1 e1 h3
      obtain ⟨w, hw⟩ := node_ev nm d r2 e2 h4
      have ev : v = m_both (sgc (I q 0)) u w := by
        have z := hv []
        rw [evs_app, evs_app, hu, hw] at z
        have z2 : evs nm [sgc (I q 0)] [w, u] = [m_both (sgc (I q 0)) u w] := ev1_two h0
        rw [z2] at z
        exact (List.cons.inj z).1.symm
      subst ev
      exact ⟨ty_ne a (by decide), ty_ne a (by decide), ty_ne a (by decide), ty_ne a (by decide), fun _ => k13_value l G n Ty F hC I L d q ih hq a h0 r1 r2 e1 e2 h1 h2 h3 h4 nm hN u hu w hw⟩
