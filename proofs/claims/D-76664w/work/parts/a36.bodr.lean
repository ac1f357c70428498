/-! A BODY MORE, on both sides -/
theorem TOP.body {n n' : Nat} {Ty Ty' : Nat → xs_T} {I I' : xI_T} {L : xL_T} {F F' : xF_T} {J : xI_T} {M : xL_T} {m K : Nat} (h : TOP n Ty I L F J M) (hm : m < 50) (e : J 70 31 = nI m) (hK : K ≤ 7) (h1 : grw n n' Ty Ty') (hn : n < n') (hT : Ty' n = some (.inl (15 + K))) (hI : ∀ c s : Nat, c < n → ¬ (c = 0 ∧ s = 42) → I' c s = I c s) (h42 : I' 0 42 = nI (m + 1)) (hI0 : I' n 0 = nI m) (hF : ∀ c s : Nat, c < n → ¬ (c = 32 ∧ s = m) → F' c s = F c s) (hF32 : F' 32 m = some n) (hF1 : F' n 1 = some 0) : TOP n' Ty' I' L F' (up2 (up2 J 88 m (nI K)) 70 31 (nI (m + 1))) M := by
  obtain ⟨a1, a2, a3, a4, a5, a6, a7, a8, a9, b1, b2, b3, b4, b5, b6, b7⟩ := h
  have hn3 : 103 ≤ n := a1.1
  have hJ : ∀ c k : Nat, c ≠ 88 → ¬ (c = 70 ∧ k = 31) → up2 (up2 J 88 m (nI K)) 70 31 (nI (m + 1)) c k = J c k := fun c k z1 z2 => by rw [up2_n _ _ z2, up2_i _ _ z1]
  have id : ∀ c k : Nat, 103 ≤ c → c < n → I' c k = I c k := fun c k _ z2 => hI c k z2 (by omega)
  have df : dynF n F F' := fun c k z1 z2 => hF c k z2 (by omega)
  have dA : dynA n Ty I I' L L := dynA.of id (fun _ _ _ _ => rfl)
  have e31 : up2 (up2 J 88 m (nI K)) 70 31 (nI (m + 1)) 70 31 = nI (m + 1) := up2_s _ _ _ _
  have k88 : up2 (up2 J 88 m (nI K)) 70 31 (nI (m + 1)) 88 m = nI K := by rw [up2_i _ _ (by decide), up2_s]
  have k8o : ∀ k : Nat, k ≠ m → up2 (up2 J 88 m (nI K)) 70 31 (nI (m + 1)) 88 k = J 88 k := fun k y => by rw [up2_i _ _ (by decide), up2_k _ _ y]
  refine ⟨a1.w h1 (fun c k y1 y2 y3 y4 y5 y6 => hF c k (by omega) (by omega)), a2.w (fun k _ _ => hI 0 k (by omega) (by omega)) (fun c k _ => hJ c k (by omega) (by omega)), a3.w a6 (fun c k _ => hI c k (by omega) (by omega)) (fun c k _ => hJ c k (by omega) (by omega)), a4.w a6 h1 (dynB.of id) (fun k _ => hF 1 k (by omega) (by omega)) (fun c k _ => hJ c k (by omega) (by omega)), a5.w h1 (dynI.of id) df (hF 0 10 (by omega) (by omega)) (fun c k _ => hJ c k (by omega) (by omega)), a6.w (fun c k _ => hJ c k (by omega) (by omega)), a7.w (fun k => hI 23 k (by omega) (by omega)) (fun k => hJ 101 k (by omega) (by omega)), a8.w (fun k _ => hF 1 k (by omega) (by omega)) (hJ 70 0 (by omega) (by omega)), a9.w h1 (dynI.of id) ⟨hI 0 6 (by omega) (by omega), hI 0 7 (by omega) (by omega)⟩ (fun k => hF 2 k (by omega) (by omega)) (fun c k _ => hJ c k (by omega) (by omega)), b1.w (fun c k _ => hI c k (by omega) (by omega)) (fun c k _ => hJ c k (by omega) (by omega)), b2.w (fun k _ _ => hI 0 k (by omega) (by omega)) (fun k => hJ 84 k (by omega) (by omega)), b3.w (fun c k _ => hI c k (by omega) (by omega)) (fun c k _ => hJ c k (by omega) (by omega)) (by rw [hJ 70 0 (by omega) (by omega)]; exact Nat.le_refl _), ?_, b5.w (fun c k _ => hI c k (by omega) (by omega)) (fun c k _ => hJ c k (by omega) (by omega)), ?_, b7.w (fun k => hI 9 k (by omega) (by omega)) (fun c k _ => hJ c k (by omega) (by omega))⟩
  · obtain ⟨m0, ⟨m1, m2, m3⟩, hb, hw⟩ := b4
    have em : m0 = m := by
      have y := congrArg ix (m2.symm.trans e)
      rwa [ix_n (by omega), ix_n (by omega)] at y
    subst em
    refine ⟨m0 + 1, ⟨by omega, e31, h42⟩, fun b hb9 => ?_, fun k hk => ?_⟩
    · by_cases ebm : b = m0
      · subst ebm
        exact ⟨n, K, hF32, ⟨hn3, hn⟩, hK, hT, k88, hI0, hF1⟩
      · obtain ⟨q, c, y1, y2, y3, y4, y5, y6, y7⟩ := hb b (by omega)
        exact ⟨q, c, (hF 32 b (by omega) (by omega)).trans y1, ⟨y2.1, Nat.lt_of_lt_of_le y2.2 h1.1⟩, y3, (h1.2 q y2.2).trans y4, (k8o b ebm).trans y5, (hI q 0 y2.2 (by omega)).trans y6, (hF q 1 y2.2 (by omega)).trans y7⟩
    · by_cases ekm : k = m0
      · rw [ekm, k88]
        exact vp_in_nI (by omega) (by decide)
      · rw [k8o k ekm]
        exact hw k hk
  · obtain ⟨c1, c2, c3, c4⟩ := b6
    have hix : ix (J 70 31) = m := by rw [e]; exact ix_n (by omega)
    have sh : ∀ s : Nat, s < 6 → shK n' Ty' I' L F' (up2 (up2 J 88 m (nI K)) 70 31 (nI (m + 1))) M s := fun s hs => by
      have hFk : F' 33 s = F 33 s := hF 33 s (by omega) (by omega)
      rcases c1 s hs with g | ⟨q2, t2, a2', z2, ⟨g1, g2, g3, g4, g5⟩, g6, ⟨g7, g8, g9, g10, g11, g12⟩, g13⟩ | ⟨q2, b2', c2', ⟨g1, g2, g3, g4, g5, g6⟩, g7, g8⟩
      · exact Or.inl ⟨hFk.trans g.1, by rw [hJ 90 s (by omega) (by omega)]; exact g.2⟩
      · refine Or.inr (Or.inl ⟨q2, t2, a2', z2, ⟨hFk.trans g1, g2, Nat.lt_of_lt_of_le g3 h1.1, g4, (h1.2 q2 g3).trans g5⟩, by rw [hJ 90 s (by omega) (by omega)]; exact g6, ⟨(hF q2 0 g3 (by omega)).trans g7, g8, Nat.lt_of_lt_of_le g9 h1.1, g10, by rw [hJ 91 s (by omega) (by omega)]; exact g11, (h1.2 a2' g9).trans g12⟩, fun j hj => ?_⟩)
        rw [hI a2' j g9 (by omega)]
        exact g13 j hj
      · have hlt := c4 s b2' hs g7 g8
        rw [hix] at hlt
        exact Or.inr (Or.inr ⟨q2, b2', c2', ⟨hFk.trans g1, (hF 32 b2' (by omega) (by omega)).trans g2, g3, Nat.lt_of_lt_of_le g4 h1.1, g5, (h1.2 q2 g4).trans g6⟩, g7, by rw [hJ 90 s (by omega) (by omega)]; exact g8⟩)
    refine ⟨sh, fun s hs => by rw [hJ 91 _ (by omega) (by omega)]; exact c2 s hs, fun s t x hs ht hst r1 r2 => c3 s t x hs ht hst (rowA.w (c1 s hs) h1 df (hF 33 s (by omega) (by omega)) r1) (rowA.w (c1 t ht) h1 df (hF 33 t (by omega) (by omega)) r2), fun s b hs hb e9 => ?_⟩
    rw [hJ 90 s (by omega) (by omega)] at e9
    rw [e31, ix_n (by omega)]
    have := c4 s b hs hb e9
    omega
theorem eight {t : Int32} (h : ¬ inR t 0 7 = 0) : t = 0 ∨ t = 1 ∨ t = 2 ∨ t = 3 ∨ t = 4 ∨ t = 5 ∨ t = 6 ∨ t = 7 := by
  obtain ⟨x, h0, h4, e⟩ := inR_nat 0 7 h rfl rfl (by decide)
  rw [e]
  have y : x = 0 ∨ x = 1 ∨ x = 2 ∨ x = 3 ∨ x = 4 ∨ x = 5 ∨ x = 6 ∨ x = 7 := by omega
  rcases y with rfl | rfl | rfl | rfl | rfl | rfl | rfl | rfl
  · exact Or.inl rfl
  · exact Or.inr (Or.inl rfl)
  · exact Or.inr (Or.inr (Or.inl rfl))
  · exact Or.inr (Or.inr (Or.inr (Or.inl rfl)))
  · exact Or.inr (Or.inr (Or.inr (Or.inr (Or.inl rfl))))
  · exact Or.inr (Or.inr (Or.inr (Or.inr (Or.inr (Or.inl rfl)))))
  · exact Or.inr (Or.inr (Or.inr (Or.inr (Or.inr (Or.inr (Or.inl rfl))))))
  · exact Or.inr (Or.inr (Or.inr (Or.inr (Or.inr (Or.inr (Or.inr rfl))))))
section XU
variable {Θ : xT_T} {l : Launch} {cls : String} {cc : ByteArray} {nL k mc ms : Nat} {ret : Option FieldType} {nm : String} {G : xG_T} {own : Nat → Prop} {post : xP_T} {ce sl n : Nat} {Ty : Nat → xs_T} {I : xI_T} {L : xL_T} {F : xF_T} {pc : Nat} {lv : List (Option Value)} {st : List Value}
theorem x_callVErm (h : XOk Θ l cls cc nL k mc ms ret nm G own post) {i ci : Nat} {y : MethodName} {cy : ByteArray} {nLy k' mc' ms' na idx n2 r : Nat} {rty : Option FieldType} {Ty2 : Nat → xs_T} {I2 : xI_T} {L2 : xL_T} {F2 : xF_T} {As rest : List Value} (hM : Cg l k' mc' ms' y cy nLy rty G own (.ref (xb G + i) :: As) n Ty I L F (xpE (some (.ref r)) n2 Ty2 I2 L2 F2)) (g : xcv cls idx ci y cy nLy rty na) (hi : i < n) (ht : Ty i = some (.inl ci)) (d : decode cc pc = .ok (.invokevirtual idx, 3)) (hk : k' < k ∧ nLy ≤ 45) (hce : ce + mc' ≤ mc ∧ sl + ms' ≤ ms) (hna : As.length = na) (hrest : (rest.map fun v => v.category).sum ≤ 8)
    (kk : X Θ (ce + mc') (sl + ms') n2 Ty2 I2 L2 F2 (pc + 3) lv (.ref r :: rest)) : X Θ ce sl n Ty I L F pc lv (As.reverse ++ .ref (xb G + i) :: rest) := by
  refine x_callV h hM g hi ht d hk hce hna hrest ?_
  rintro _ _ _ _ _ _ ⟨rfl, rfl, rfl, rfl, rfl, rfl⟩
  exact kk
end XU
