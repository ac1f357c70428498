/-! A ROW laid on a shelf, on both sides -/
section XU
variable {Θ : xT_T} {l : Launch} {cls : String} {cc : ByteArray} {nL k mc ms : Nat} {ret : Option FieldType} {nm : String} {G : xG_T} {own : Nat → Prop} {post : xP_T} {ce sl n : Nat} {Ty : Nat → xs_T} {I : xI_T} {L : xL_T} {F : xF_T} {pc : Nat} {lv : List (Option Value)} {st : List Value}
theorem x_callIEm (h : XOk Θ l cls cc nL k mc ms ret nm G own post) {i : Nat} {y : MethodName} {cy : ByteArray} {nLy k' mc' ms' na idx n2 : Nat} {Ty2 : Nat → xs_T} {I2 : xI_T} {L2 : xL_T} {F2 : xF_T} {As rest : List Value} (hM : Cg l k' mc' ms' y cy nLy none G own (.ref (xb G + i) :: As) n Ty I L F (xpE none n2 Ty2 I2 L2 F2)) (g : xci cls idx y cy nLy na) (d : decode cc pc = .ok (.invokespecial idx, 3)) (hk : k' < k ∧ nLy ≤ 45) (hce : ce + mc' ≤ mc ∧ sl + ms' ≤ ms) (hna : As.length = na) (hrest : (rest.map fun v => v.category).sum ≤ 8)
    (kk : X Θ (ce + mc') (sl + ms') n2 Ty2 I2 L2 F2 (pc + 3) lv rest) : X Θ ce sl n Ty I L F pc lv (As.reverse ++ .ref (xb G + i) :: rest) := by
  refine x_callI h hM g d hk hce hna hrest ?_
  rintro _ _ _ _ _ _ ⟨rfl, rfl, rfl, rfl, rfl, rfl⟩
  exact kk
theorem x_callSErm (h : XOk Θ l cls cc nL k mc ms ret nm G own post) {y : MethodName} {cy : ByteArray} {nLy k' mc' ms' na idx n2 r : Nat} {rty : Option FieldType} {Ty2 : Nat → xs_T} {I2 : xI_T} {L2 : xL_T} {F2 : xF_T} {As rest : List Value} (hM : Cg l k' mc' ms' y cy nLy rty G own As n Ty I L F (xpE (some (.ref r)) n2 Ty2 I2 L2 F2)) (g : xcs cls idx y cy nLy rty na) (d : decode cc pc = .ok (.invokestatic idx, 3)) (hk : k' < k ∧ nLy ≤ 45) (hce : ce + mc' ≤ mc ∧ sl + ms' ≤ ms) (hna : As.length = na) (hrest : (rest.map fun v => v.category).sum ≤ 8)
    (kk : X Θ (ce + mc') (sl + ms') n2 Ty2 I2 L2 F2 (pc + 3) lv (.ref r :: rest)) : X Θ ce sl n Ty I L F pc lv (As.reverse ++ rest) := by
  refine x_callS h hM g d hk hce hna hrest ?_
  rintro _ _ _ _ _ _ ⟨rfl, rfl, rfl, rfl, rfl, rfl⟩
  exact kk
end XU
theorem not_lt_nI {t : Nat} (h : t < 2147483648) : ¬ nI t < 0 := by
  rw [i_lt, nI_toInt h, show (0 : Int32).toInt = 0 from rfl]
  omega
theorem fits_0 (t : Nat) : fits (xty (rkd t)) (.int 0) = true := by
  unfold rkd
  split <;> rfl
theorem Wsh.row {J : xI_T} {s z : Nat} {v : Int32} (h : Wsh J) (hz : z ≤ 60) : Wsh (up2 (up2 J 90 s v) 91 s (nI z)) := fun x hx => by
  by_cases e : ix x = s
  · rw [e, up2_s]
    exact vp_in_nI (by omega) (by decide)
  · rw [up2_k _ _ e, up2_i _ _ (by decide)]
    exact h x hx
theorem TOP.row {n n' : Nat} {Ty Ty' : Nat → xs_T} {I I' : xI_T} {L L' : xL_T} {F F' : xF_T} {J : xI_T} {M : xL_T} {s t z : Nat} (h : TOP n Ty I L F J M) (hs : s < 6) (ht : t < 5) (hz : z ≤ 60) (h1 : grw n n' Ty Ty') (hn : n + 1 < n') (hI : ∀ c k : Nat, c < n → I' c k = I c k) (hI0 : ∀ k : Nat, I' (n + 1) k = 0) (hL : ∀ c k : Nat, c < n → L' c k = L c k) (hL0 : ∀ k : Nat, L' (n + 1) k = 0) (hF : ∀ c k : Nat, c < n → ¬ (c = 33 ∧ k = s) → F' c k = F c k) (hFs : F' 33 s = some n) (hF0 : F' n 0 = some (n + 1)) (hT : Ty' n = some (.inl (24 + t))) (hTa : Ty' (n + 1) = some (.inr (rkd t, z))) : TOP n' Ty' I' L' F' (up2 (up2 J 90 s (nI t)) 91 s (nI z)) (fillL M (60 * s) 60) := by
  obtain ⟨a1, a2, a3, a4, a5, a6, a7, a8, a9, b1, b2, b3, b4, b5, b6, b7⟩ := h
  have hn3 : 103 ≤ n := a1.1
  have hJ : ∀ c k : Nat, c ≠ 90 → c ≠ 91 → up2 (up2 J 90 s (nI t)) 91 s (nI z) c k = J c k := fun c k z1 z2 => by rw [up2_i _ _ z2, up2_i _ _ z1]
  have id : ∀ c k : Nat, 103 ≤ c → c < n → I' c k = I c k := fun c k _ z2 => hI c k z2
  have df : dynF n F F' := fun c k z1 z2 => hF c k z2 (by omega)
  have dA : dynA n Ty I I' L L' := dynA.of id (fun c k _ z2 => hL c k z2)
  have e90 : up2 (up2 J 90 s (nI t)) 91 s (nI z) 90 s = nI t := by rw [up2_i _ _ (by decide), up2_s]
  have e91 : up2 (up2 J 90 s (nI t)) 91 s (nI z) 91 s = nI z := up2_s _ _ _ _
  have ek : ∀ c k : Nat, k ≠ s → up2 (up2 J 90 s (nI t)) 91 s (nI z) c k = J c k := fun c k y => by rw [up2_n _ _ (by omega), up2_n _ _ (by omega)]
  refine ⟨a1.w h1 (fun c k y1 y2 y3 y4 y5 y6 => hF c k (by omega) (by omega)), a2.w (fun k _ _ => hI 0 k (by omega)) (fun c k _ => hJ c k (by omega) (by omega)), a3.w a6 (fun c k _ => hI c k (by omega)) (fun c k _ => hJ c k (by omega) (by omega)), a4.w a6 h1 (dynB.of id) (fun k _ => hF 1 k (by omega) (by omega)) (fun c k _ => hJ c k (by omega) (by omega)), a5.w h1 (dynI.of id) df (hF 0 10 (by omega) (by omega)) (fun c k _ => hJ c k (by omega) (by omega)), a6.w (fun c k _ => hJ c k (by omega) (by omega)), a7.w (fun k => hI 23 k (by omega)) (fun k => hJ 101 k (by omega) (by omega)), a8.w (fun k _ => hF 1 k (by omega) (by omega)) (hJ 70 0 (by omega) (by omega)), a9.w h1 (dynI.of id) ⟨hI 0 6 (by omega), hI 0 7 (by omega)⟩ (fun k => hF 2 k (by omega) (by omega)) (fun c k _ => hJ c k (by omega) (by omega)), b1.w (fun c k _ => hI c k (by omega)) (fun c k _ => hJ c k (by omega) (by omega)), b2.w (fun k _ _ => hI 0 k (by omega)) (fun k => hJ 84 k (by omega) (by omega)), b3.w (fun c k _ => hI c k (by omega)) (fun c k _ => hJ c k (by omega) (by omega)) (by rw [hJ 70 0 (by omega) (by omega)]; exact Nat.le_refl _), b4.w h1 (dynI.of id) df (hI 0 42 (by omega)) (fun k => hF 32 k (by omega) (by omega)) (fun c k _ => hJ c k (by omega) (by omega)), b5.w (fun c k _ => hI c k (by omega)) (fun c k _ => hJ c k (by omega) (by omega)), ?_, b7.w (fun k => hI 9 k (by omega)) (fun c k _ => hJ c k (by omega) (by omega))⟩
  obtain ⟨c1, c2, c3, c4⟩ := b6
  have hold : ∀ s' : Nat, s' < 6 → s' ≠ s → shK n' Ty' I' L' F' (up2 (up2 J 90 s (nI t)) 91 s (nI z)) (fillL M (60 * s) 60) s' := fun s' hs' e => by
    have hFk : F' 33 s' = F 33 s' := hF 33 s' (by omega) (by omega)
    rcases c1 s' hs' with g | ⟨q2, t2, a2', z2, ⟨g1, g2, g3, g4, g5⟩, g6, ⟨g7, g8, g9, g10, g11, g12⟩, g13⟩ | ⟨q2, b2', c2', ⟨g1, g2, g3, g4, g5, g6⟩, g7, g8⟩
    · exact Or.inl ⟨hFk.trans g.1, by rw [ek _ _ e]; exact g.2⟩
    · refine Or.inr (Or.inl ⟨q2, t2, a2', z2, ⟨hFk.trans g1, g2, Nat.lt_of_lt_of_le g3 h1.1, g4, (h1.2 q2 g3).trans g5⟩, by rw [ek _ _ e]; exact g6, ⟨(hF q2 0 g3 (by omega)).trans g7, g8, Nat.lt_of_lt_of_le g9 h1.1, g10, by rw [ek _ _ e]; exact g11, (h1.2 a2' g9).trans g12⟩, fun j hj => ?_⟩)
      have ef : fillL M (60 * s) 60 92 (60 * s' + j) = M 92 (60 * s' + j) := by
        unfold fillL
        rw [if_neg (by omega)]
      rw [hI a2' j g9, hL a2' j g9, ef]
      exact g13 j hj
    · exact Or.inr (Or.inr ⟨q2, b2', c2', ⟨hFk.trans g1, (hF 32 b2' (by omega) (by omega)).trans g2, g3, Nat.lt_of_lt_of_le g4 h1.1, g5, (h1.2 q2 g4).trans g6⟩, g7, by rw [ek _ _ e]; exact g8⟩)
  have oldr : ∀ s' x : Nat, s' < 6 → s' ≠ s → rowA n' Ty' F' s' x → rowA n Ty F s' x ∧ x < n := fun s' x hs' e r => by
    have r2 := rowA.w (c1 s' hs') h1 df (hF 33 s' (by omega) (by omega)) r
    refine ⟨r2, ?_⟩
    obtain ⟨q2, k2, y1, y2, y3, y4, y5⟩ := r2
    rcases c1 s' hs' with g | ⟨q3, t2, a2', z2, ⟨g1, g2, g3, g4, g5⟩, g6, ⟨g7, g8, g9, g10, g11, g12⟩, g13⟩ | ⟨q3, b2', c2', ⟨g1, g2, g3, g4, g5, g6⟩, g7, g8⟩
    · rw [g.1] at y1; cases y1
    · have e2 := Option.some.inj (y1.symm.trans g1)
      subst e2
      have e3 := Option.some.inj (y5.symm.trans g7)
      omega
    · have e2 := Option.some.inj (y1.symm.trans g1)
      subst e2
      rw [g6] at y4
      injection y4 with y6
      injection y6 with y7
      omega
  have newr : ∀ x : Nat, rowA n' Ty' F' s x → x = n + 1 := fun x r => by
    obtain ⟨q2, k2, y1, y2, y3, y4, y5⟩ := r
    have e2 := Option.some.inj (y1.symm.trans hFs)
    subst e2
    exact Option.some.inj (y5.symm.trans hF0)
  refine ⟨fun s' hs' => ?_, c2.row hz, fun s1 s2 x hs1 hs2 hne r1 r2 => ?_, fun s' b hs' hb e => ?_⟩
  · by_cases e : s' = s
    · subst e
      refine Or.inr (Or.inl ⟨n, t, n + 1, z, ⟨hFs, hn3, by omega, ht, hT⟩, e90, ⟨hF0, by omega, hn, hz, e91, hTa⟩, fun j hj => ?_⟩)
      have ef : fillL M (60 * s') 60 92 (60 * s' + j) = 0 := by
        unfold fillL
        rw [if_pos ⟨rfl, by omega, by omega⟩]
      rw [hI0, hL0, ef]
      refine ⟨by split <;> rfl, fun _ => fits_0 t⟩
    · exact hold s' hs' e
  · by_cases e1 : s1 = s
    · have y := newr x (by rw [← e1]; exact r1)
      have := (oldr s2 x hs2 (by omega) r2).2
      omega
    · by_cases e2 : s2 = s
      · have y := newr x (by rw [← e2]; exact r2)
        have := (oldr s1 x hs1 e1 r1).2
        omega
      · exact c3 s1 s2 x hs1 hs2 hne (oldr s1 x hs1 e1 r1).1 (oldr s2 x hs2 e2 r2).1
  · rw [hJ 70 31 (by omega) (by omega)]
    by_cases es : s' = s
    · rw [es, e90] at e
      have := congrArg ix e
      rw [ix_n (by omega), ix_n (by omega)] at this
      omega
    · rw [ek _ _ es] at e
      exact c4 s' b hs' hb e
