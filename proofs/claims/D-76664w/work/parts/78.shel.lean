/-! SHELVES, on both sides; a row of buyers read from one -/
section XR
variable {Θ : xT_T} {l : Launch} {cls : String} {cc : ByteArray} {nL k mc ms : Nat} {ret : Option FieldType} {nm : String} {G : xG_T} {own : Nat → Prop} {post : xP_T} {ce sl n : Nat} {Ty : Nat → xs_T} {I : xI_T} {L : xL_T} {F : xF_T} {pc : Nat} {lv : List (Option Value)} {st : List Value}
theorem x_aaldn (h : XOk Θ l cls cc nL k mc ms ret nm G own post) {i t N : Nat} {j : Int32} {ty : FieldType} (hi : i < n) (ht : Ty i = some (.inr (t, N))) (h5 : 5 ≤ t) (hty : (xtys G.2.1)[t]? = some (G.2.1 t, ty)) (href : ty.isReference = true) (hin : vp_in j N) (a : Nat) (ha : j.toNatClampNeg = a) (hq : F i a = none) (d : decode cc pc = .ok (.aaload, 1)) (kk : X Θ ce sl n Ty I L F (pc + 1) lv (.null :: st)) : X Θ ce sl n Ty I L F pc lv (.int j :: .ref (xb G + i) :: st) := by
  refine x_aald h hi ht h5 hty href hin a ha d ?_
  rw [hq]
  exact kk
end XR
/-- the class of what isn't a row of bytes -/
theorem nobyte {ci : Nat} (h : (15 ≤ ci ∧ ci ≤ 22) ∨ (25 ≤ ci ∧ ci ≤ 28)) : ∃ (C : String) (T : u_T) (M : Nat), xcl[ci]? = some (C, T, M) ∧ (C, "ThirdAfter$ByteRow") ∈ xpairs := by
  have z : ci = 15 ∨ ci = 16 ∨ ci = 17 ∨ ci = 18 ∨ ci = 19 ∨ ci = 20 ∨ ci = 21 ∨ ci = 22 ∨ ci = 25 ∨ ci = 26 ∨ ci = 27 ∨ ci = 28 := by omega
  rcases z with rfl | rfl | rfl | rfl | rfl | rfl | rfl | rfl | rfl | rfl | rfl | rfl
  all_goals exact ⟨_, _, _, rfl, by decide +kernel⟩
/-- the array kind of a row of sort t -/
def rkd (t : Nat) : Nat := match t with
  | 0 => 1
  | 1 => 2
  | 2 => 0
  | 3 => 4
  | _ => 3
def shRow (n : Nat) (Ty : Nat → xs_T) (I : xI_T) (L : xL_T) (F : xF_T) (J : xI_T) (M : xL_T) (s q t a z : Nat) : Prop := (F 33 s = some q ∧ 103 ≤ q ∧ q < n ∧ t < 5 ∧ Ty q = some (.inl (24 + t))) ∧ J 90 s = nI t ∧ (F q 0 = some a ∧ 103 ≤ a ∧ a < n ∧ z ≤ 60 ∧ J 91 s = nI z ∧ Ty a = some (.inr (rkd t, z))) ∧ ∀ i : Nat, i < z → (if t = 3 then L a i else (I a i).toInt64) = M 92 (60 * s + i) ∧ (t ≠ 3 → fits (xty (rkd t)) (.int (I a i)) = true)
def shLat (n : Nat) (Ty : Nat → xs_T) (F : xF_T) (J : xI_T) (s q b c : Nat) : Prop := (F 33 s = some q ∧ F 32 b = some q ∧ 103 ≤ q ∧ q < n ∧ c ≤ 7 ∧ Ty q = some (.inl (15 + c))) ∧ b < 50 ∧ J 90 s = nI (10 + b)
/-- a shelf: empty, a row or a body -/
def shK (n : Nat) (Ty : Nat → xs_T) (I : xI_T) (L : xL_T) (F : xF_T) (J : xI_T) (M : xL_T) (s : Nat) : Prop := (F 33 s = none ∧ J 90 s = -1) ∨ (∃ q t a z : Nat, shRow n Ty I L F J M s q t a z) ∨ ∃ q b c : Nat, shLat n Ty F J s q b c
theorem noB_e {J : xI_T} {s : Nat} (hs : s < 6) (h : J 90 s = -1) : m_noB J (nI s) = -11 := by
  unfold m_noB
  rw [ix_n (by omega), if_pos h]
theorem noB_b {J : xI_T} {s : Nat} (hs : s < 6) (h : J 90 s = nI 0) : m_noB J (nI s) = 0 := by
  unfold m_noB
  rw [ix_n (by omega), h, if_neg (by decide), if_pos (show nI 0 = 0 from rfl)]
theorem noB_o {J : xI_T} {s t : Nat} (hs : s < 6) (h : J 90 s = nI t) (h0 : 0 < t) (h1 : t < 1000) : m_noB J (nI s) = -12 := by
  have e : (nI t).toInt = t := nI_toInt (by omega)
  unfold m_noB
  rw [ix_n (by omega), h, if_neg (fun z => by rw [i_eq, e, show (-1 : Int32).toInt = -1 from rfl] at z; omega), if_neg (fun z => by rw [i_eq, e, show (0 : Int32).toInt = 0 from rfl] at z; omega)]
theorem rg_stop {M : xL_T} {s : Int32} {K : xI_T} {d : Nat} (h : 20 ≤ K 70 45 ∨ K 91 (ix s) ≤ K 70 45 ∨ m_isB K (m_told M s (K 70 45)) = 0) : m_readGo M s (d + 1) K = K := by
  rw [m_readGo]
  by_cases h1 : 20 ≤ K 70 45
  · rw [if_pos h1]
  · rw [if_neg h1]
    by_cases h2 : K 91 (ix s) ≤ K 70 45
    · rw [if_pos h2]
    · rw [if_neg h2, if_pos ((h.resolve_left h1).resolve_left h2)]
theorem rg_step {M : xL_T} {s : Int32} {K : xI_T} {d : Nat} (h1 : ¬ 20 ≤ K 70 45) (h2 : ¬ K 91 (ix s) ≤ K 70 45) (h3 : ¬ m_isB K (m_told M s (K 70 45)) = 0) : m_readGo M s (d + 1) K = m_readGo M s d (up2 (up2 K 96 (ix (K 70 45)) (m_told M s (K 70 45))) 70 45 (K 70 45 + 1)) := by
  rw [m_readGo, if_neg h1, if_neg h2, if_neg h3]
/-- k numbers read, on both sides -/
def rdF (s : Nat) (M : xL_T) (k : Nat) (I A J K : xI_T) : Prop := m_reads J M (nI s) = m_readGo M (nI s) (21 - k) K ∧ K 70 45 = nI k ∧ k ≤ 20 ∧ (∀ q j : Nat, q ≠ 96 → ¬ (q = 70 ∧ j = 45) → K q j = J q j) ∧ A 0 19 = nI k ∧ (∀ j : Nat, j < k → A 22 j = K 96 j ∧ ∃ w : Nat, w < ix (J 70 0) ∧ K 96 j = nI w) ∧ ∀ q j : Nat, q ≠ 22 → ¬ (q = 0 ∧ j = 19) → A q j = I q j
theorem rdF.start {s : Nat} {M : xL_T} {I J : xI_T} : rdF s M 0 I (up2 I 0 19 0) J (up2 J 70 45 0) := ⟨rfl, up2_s _ _ _ _, by decide, fun q j _ h => up2_n _ _ h, up2_s _ _ _ _, fun j hj => absurd hj (Nat.not_lt_zero _), fun q j _ h => up2_n _ _ h⟩
theorem told_n {M : xL_T} {s k : Nat} (hs : s < 6) (hk : k < 60) : m_told M (nI s) (nI k) = (M 92 (60 * s + k)).toInt32 := by
  unfold m_told
  rw [show (60 : Int32) = nI 60 from rfl, pk_mul 60 s, nI_add, ix_n (by omega)]
theorem rdF.step {s k w : Nat} {M : xL_T} {I A J K : xI_T} {v : Int32} (h : rdF s M k I A J K) (hk : k < 20) (hs : s < 6) {z : Nat} (hz : J 91 s = nI z) (hz6 : z ≤ 60) (hkz : k < z) (hv : v = (M 92 (60 * s + k)).toInt32) (hb : ¬ m_isB J v = 0) (hw : v = nI w) (hw2 : w < ix (J 70 0)) : rdF s M (k + 1) I (up2 (up2 A 22 k v) 0 19 (nI (k + 1))) J (up2 (up2 K 96 k v) 70 45 (nI (k + 1))) := by
  obtain ⟨h1, h2, h3, h4, h5, h6, h7⟩ := h
  have e91 : K 91 (ix (nI s)) = nI z := by rw [h4 _ _ (by decide) (by omega), ix_n (by omega)]; exact hz
  have et : m_told M (nI s) (K 70 45) = v := by rw [h2, told_n hs (by omega), hv]
  refine ⟨?_, up2_s _ _ _ _, by omega, fun q j a b => by rw [up2_n _ _ b, up2_i _ _ a]; exact h4 q j a b, up2_s _ _ _ _, fun j hj => ?_, fun q j a b => by rw [up2_n _ _ b, up2_i _ _ a]; exact h7 q j a b⟩
  · rw [h1, show 21 - k = (20 - k) + 1 by omega, rg_step (by rw [h2]; exact fun q => by have := (nI_leI (a := 20) (b := k) (by decide) (by omega)).mp q; omega) (by rw [e91, h2]; exact fun q => by have := (nI_leI (a := z) (b := k) (by omega) (by omega)).mp q; omega) (by
      rw [et]
      have e : m_isB K v = m_isB J v := by
        unfold m_isB
        rw [h4 70 0 (by decide) (by decide)]
      rw [e]
      exact hb), et, h2, ix_n (by omega), nI_1, show 20 - k = 21 - (k + 1) by omega]
  · rw [up2_i (up2 A 22 k v) _ (show (22 : Nat) ≠ 0 by decide), up2_i (up2 K 96 k v) _ (show (96 : Nat) ≠ 70 by decide)]
    by_cases e : j = k
    · subst e
      rw [up2_s, up2_s]
      exact ⟨rfl, w, hw2, hw⟩
    · rw [up2_k _ _ e, up2_k _ _ e]
      exact h6 j (by omega)
theorem rdF.stop {s k : Nat} {M : xL_T} {I A J K : xI_T} (h : rdF s M k I A J K) (hs : s < 6) {z : Nat} (hz : J 91 s = nI z) (hz6 : z ≤ 60) (hc : z ≤ k ∨ 20 ≤ k ∨ m_isB J (M 92 (60 * s + k)).toInt32 = 0) : m_reads J M (nI s) = K ∧ RW A K k := by
  obtain ⟨h1, h2, h3, h4, h5, h6, h7⟩ := h
  have e91 : K 91 (ix (nI s)) = nI z := by rw [h4 _ _ (by decide) (by omega), ix_n (by omega)]; exact hz
  refine ⟨?_, h5, h3, fun j hj => ?_⟩
  · rw [h1, show 21 - k = (20 - k) + 1 by omega, rg_stop]
    rcases hc with q | q | q
    · exact Or.inr (Or.inl (by rw [e91, h2]; exact (nI_leI (by omega) (by omega)).mpr q))
    · exact Or.inl (by rw [h2]; exact (nI_leI (by decide) (by omega)).mpr q)
    · refine Or.inr (Or.inr ?_)
      rw [h2, told_n hs (by omega)]
      have e : ∀ v : Int32, m_isB K v = m_isB J v := fun v => by
        unfold m_isB
        rw [h4 70 0 (by decide) (by decide)]
      rw [e]
      exact q
  · rw [h4 70 0 (by decide) (by decide)]
    exact h6 j hj
