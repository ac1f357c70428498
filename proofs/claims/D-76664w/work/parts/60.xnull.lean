/-! FIELDS that hold null; the law's lines, of the reference -/
section XN
variable {Θ : xT_T} {l : Launch} {cls : String} {cc : ByteArray} {nL k mc ms : Nat} {ret : Option FieldType} {nm : String} {G : xG_T} {own : Nat → Prop} {post : xP_T} {ce sl n : Nat} {Ty : Nat → xs_T} {I : xI_T} {L : xL_T} {F : xF_T} {pc : Nat} {lv : List (Option Value)} {st : List Value}
theorem x_getn (h : XOk Θ l cls cc nL k mc ms ret nm G own post) {idx ci k0 i : Nat} (g : xfg cls idx ci k0) (hi : i < n) (ht : Ty i = some (.inl ci)) (h0 : ¬ (xfk ci).getD k0 0 = 0) (hj : F i k0 = none) (d : decode cc pc = .ok (.getfield idx, 3)) (kk : X Θ ce sl n Ty I L F (pc + 3) lv (.null :: st)) : X Θ ce sl n Ty I L F pc lv (.ref (xb G + i) :: st) := by
  refine x_geta h g hi ht h0 d ?_
  rw [hj]
  exact kk
theorem x_getnN (h : XOk Θ l cls cc nL k mc ms ret nm G own post) {idx ci k0 i : Nat} (g : xfgN cls idx ci k0) (hi : i < n) (ht : Ty i = some (.inl ci)) (h0 : ¬ (xfk ci).getD k0 0 = 0) (hj : F i k0 = none) (d : decode cc pc = .ok (.getfield idx, 3)) (kk : X Θ ce sl n Ty I L F (pc + 3) lv (.null :: st)) : X Θ ce sl n Ty I L F pc lv (.ref (xb G + i) :: st) := by
  refine x_getaN h g hi ht h0 d ?_
  rw [hj]
  exact kk
end XN
theorem law_i {K : xI_T} {i m : Nat} (hi : i + (m + 1) = ix (K 70 8)) (hW : Wlaw K) : ¬ K 70 8 ≤ nI i ∧ i < 60 := by
  obtain ⟨z, hz, ez⟩ := vp_in_of hW.1 (by decide)
  rw [ez, ix_n (by omega)] at hi
  rw [ez]
  exact ⟨nI_ge (by omega) (by omega), by omega⟩
theorem law_e {K : xI_T} {i a b : Nat} (hi : i + (0 + 1) = ix (K 70 8)) (hW : Wlaw K) : m_work K a b 70 8 ≤ nI (i + 1) := by
  obtain ⟨z, hz, ez⟩ := vp_in_of hW.1 (by decide)
  rw [ez, ix_n (by omega)] at hi
  rw [mwork_o (by decide), ez]
  exact nI_le (by omega) (by omega)
theorem gv_1 {K : xI_T} {i m d : Nat} {v : Int32} (hi : i + (m + 1) = ix (K 70 8)) (hW : Wlaw K) (h : K 75 i ≤ K 74 i) (hv : ∀ s : List Int32, evs (K 83) (cds K (ix (K 75 i)) (ix (K 76 i))) s = v :: s) : (m_byGo (d + 1) i K).1 = v := by
  obtain ⟨c, hi2⟩ := law_i hi hW
  rw [byGo_1 c h]
  exact mwork_v ((hW.asks c hi2).2.2.2.2 K (fun _ _ _ => rfl)).2.2.2 (hv [])
theorem gv_2 {K : xI_T} {i m d : Nat} (hi : i + (m + 1) = ix (K 70 8)) (hW : Wlaw K) (h : ¬ K 75 i ≤ K 74 i) (hv : ∀ s : List Int32, evs (K 83) (cds K (ix (K 74 i)) (ix (K 75 i))) s = 0 :: s) : m_byGo (d + 1) i K = m_byGo d (i + 1) (m_work K (ix (K 74 i)) (ix (K 75 i))) := by
  obtain ⟨c, hi2⟩ := law_i hi hW
  exact byGo_2 c h rfl (mwork_v (hW.asks c hi2).2.2.2.1 (hv []))
theorem gv_3 {K : xI_T} {i m d : Nat} {v w : Int32} (hi : i + (m + 1) = ix (K 70 8)) (hW : Wlaw K) (h : ¬ K 75 i ≤ K 74 i) (hw : ∀ s : List Int32, evs (K 83) (cds K (ix (K 74 i)) (ix (K 75 i))) s = w :: s) (hw0 : ¬ w = 0) (hv : ∀ s : List Int32, evs (K 83) (cds K (ix (K 75 i)) (ix (K 76 i))) s = v :: s) : (m_byGo (d + 1) i K).1 = v := by
  obtain ⟨c, hi2⟩ := law_i hi hW
  rw [byGo_3 c h rfl (by rw [mwork_v (hW.asks c hi2).2.2.2.1 (hw [])]; exact hw0)]
  have o : ∀ q j : Nat, q ≠ 82 → m_work K (ix (K 74 i)) (ix (K 75 i)) q j = K q j := fun q j hq => mwork_o hq
  have a := (hW.asks c hi2).2.2.2.2 _ o
  refine mwork_v a.2.2.2 ?_
  have e1 : m_work K (ix (K 74 i)) (ix (K 75 i)) 83 = K 83 := by
    funext j
    exact o 83 j (by decide)
  rw [e1, cds_mv (fun k => o 77 k (by decide)), o 75 i (by decide), o 76 i (by decide)]
  exact hv []
theorem NM.mv {I I' : xI_T} {nm nm' : Nat → Int32} (h : NM I nm) (h1 : ∀ k : Nat, I' 5 k = I 5 k) (h2 : ∀ k : Nat, nm' k = nm k) : NM I' nm' := by
  unfold NM
  simp only [h1, h2]
  exact h
