/-! WALKS OF THE COMPONENT: the first that is not so -/

set_option maxHeartbeats 4000000 in
theorem k0_wrongIn (l : Launch) (G : xG_T) (n : Nat) (Ty : Nat → xs_T) (F : xF_T) (hC : WC n Ty F) (I : xI_T) (L : xL_T) (K : xI_T) (M : xL_T) (s z zs : Nat) (hU : UN n Ty I F K M s z zs) (hs : s < 6) : CR l (262) yX0_wrongIn cX0_wrongIn 3 (some .int) G n Ty F [.ref (xb G + 0), .ref (xb G + 34)] I L (aR (fun r I2 => r = (m_unl K M (nI s)).1 ∧ Fr (cset 34) I I2)) := by
  refine Cg.intro (cls := RX0) (pad := 1) (lv := [some (.ref (xb G + 0)), some (.ref (xb G + 34)), none]) rfl (by decide) (Nat.le_of_ble_eq_true rfl) rfl (fun Θ h => ?_)
  obtain ⟨⟨hS, hRC⟩, ⟨hWa, hR, h45⟩, hRS⟩ := hU
  have hz20 := hR.2.1
  have hb8 : ix (m_begins K 70 0) ≤ 8 := by obtain ⟨y, hy, ey⟩ := vp_in_of hWa.begins.1.1 (by decide); rw [ey, ix_n (by omega)]; omega
  obtain ⟨P, hP⟩ : ∃ P : xI_T, P = m_lays (m_behind K) 93 0 := ⟨_, rfl⟩
  have hZ : RW I (m_begins K) z := hR.fr ⟨rfl, fun _ => rfl⟩ ⟨begins_o (by decide) (by decide) (by decide), fun k => begins_o (by decide) (by decide) (by omega)⟩
  have unl_45 : P 70 45 = K 70 45 := by rw [hP]; exact unl_45
  have unl_91 : ∀ {t : Nat}, t < 6 → P 91 (ix (nI t)) = K 91 t := fun ht => by rw [hP]; exact unl_91 ht
  refine x_iconst h dX0_wrongIn_0 (0) rfl ?_
  refine x_istore_n h dX0_wrongIn_1 rfl (by decide) [some (.ref (xb G + 0)), some (.ref (xb G + 34)), some (.int 0)] rfl ?_
  have lp2 : ∀ (d : Nat) (k : Nat) (A : xI_T), zs - k < d → (k ≤ zs ∧ k ≤ z) → (rowF 34 k I (m_begins K) A) → (m_unlGo P M (nI s) 61 0 = m_unlGo P M (nI s) (60 - k + 1) k) → X Θ 0 0 n Ty A L F 2 [some (.ref (xb G + 0)), some (.ref (xb G + 34)), some (.int (nI k))] [] := by
    intro d
    induction d with
    | zero =>
      intro k A hlt
      exact absurd hlt (Nat.not_lt_zero _)
    | succ d ih =>
      intro k A hlt hk hA hu
      have hf := hA.1.2.2
      have hzs := hRS.1.2
      have h23 : A 0 23 = nI zs := (hf 0 23 (by unfold cset; omega)).trans hRS.1.1
      have h19 : A 0 19 = nI z := (hf 0 19 (by unfold cset; omega)).trans hR.1
      have h22 : ∀ j : Nat, A 22 j = I 22 j := fun j => hf 22 j (by unfold cset; omega)
      have hPle : P 91 (ix (nI s)) = nI zs := (unl_91 hs).trans hRS.2.1
      refine x_iload_n h dX0_wrongIn_2 rfl ?_
      refine x_aload_n h dX0_wrongIn_3 rfl ?_
      refine x_geti h g_X0_349 (mlt hC.1 rfl) (hC.2.1 _ _ rfl) rfl dX0_wrongIn_4 ?_
      refine x_eqi (nI zs) h23 ?_
      refine x_icmp_ge h 63 dX0_wrongIn_7 rfl (fun c7 => ?_) (fun c7 => ?_)
      · skip
        have hks : k = zs := by have := (nI_leI (a := zs) (b := k) (by omega) (by omega)).mp c7; omega
        refine x_bipush h dX0_wrongIn_63 (-2) rfl ?_
        exact x_iret h dX0_wrongIn_65 rfl ⟨rfl, rfl, rfl, rfl, _, rfl, by rw [unl_1, ← hP, hu]; exact (unlGo_0 (by rw [unl_91 hs, hRS.2.1]; exact (nI_leI (by omega) (by omega)).mpr (by omega))).symm, hf⟩
      · skip
        have hks : k < zs := Nat.lt_of_not_le fun y => c7 ((nI_leI (by omega) (by omega)).mpr y)
        refine x_iload_n h dX0_wrongIn_10 rfl ?_
        refine x_aload_n h dX0_wrongIn_11 rfl ?_
        refine x_geti h g_X0_275 (mlt hC.1 rfl) (hC.2.1 _ _ rfl) rfl dX0_wrongIn_12 ?_
        refine x_eqi (nI z) h19 ?_
        refine x_icmp_lt h 20 dX0_wrongIn_15 rfl (fun c15 => ?_) (fun c15 => ?_)
        · skip
          have hkz : k < z := (nI_ltI (by omega) (by omega)).mp c15
          obtain ⟨r1, w, hw, ew⟩ := hZ.2.2 k hkz
          have e0 : m_goGo k (m_begins K) 70 0 = m_begins K 70 0 := goGo_o (gz3_70 (Or.inl (by decide))) k
          have e96 : m_goGo k (m_begins K) 96 k = nI w := by rw [goGo_o (gz3_q (Or.inl rfl))]; exact ew
          have hMW := goGo_M hWa.begins.1 hWa.begins.2.1 (fun j hj => (hZ.2.2 j hj).2) k (by omega)
          refine x_aload_n h dX0_wrongIn_20 rfl ?_
          refine x_aload_n h dX0_wrongIn_21 rfl ?_
          refine x_aload_n h dX0_wrongIn_22 rfl ?_
          refine x_getr h (j := 22) g_X0_183 (mlt hC.1 rfl) (hC.2.1 _ _ rfl) (by decide) (hC.2.2 _ _ _ rfl) dX0_wrongIn_23 ?_
          refine x_iload_n h dX0_wrongIn_26 rfl ?_
          refine x_iald h (mlt hC.1 rfl) (hC.2.1 _ _ rfl) (vp_in_nI (show k < 21 by omega) (by decide)) (k) (nI_clamp (by omega)) dX0_wrongIn_27 ?_
          refine x_eqi (nI w) (by rw [h22, r1]; exact ew) ?_
          refine x_callVRv h (As := [.ref _, .int _]) (k0_comesIn l G n _ _ hC _ _ (m_goGo k (m_begins K)) 34 w (hC.mk (Or.inr (Or.inr (Or.inl rfl)))) (by decide) (hS.fr3 (fun q j hq => hf q j (by unfold cset; omega)) (hf 0 1 (by unfold cset; omega)) (hf 0 3 (by unfold cset; omega)) (fun q j h _ => goGo_o h k)) hA.1.1 hMW.1 hMW.2 (by rw [e0]; exact hw)) m_X0_284 (mlt hC.1 rfl) (hC.2.1 _ _ rfl) dX0_wrongIn_28 ⟨by decide, by decide⟩ ⟨by decide, by decide⟩ rfl (Nat.le_of_ble_eq_true rfl) (fun J28 hp28 => ?_)
          have hA2 : rowF 34 (k + 1) I (m_begins K) J28 := hA.step (by rw [e96]; exact hp28) hb8
          have h24 : J28 24 k = (M 92 (60 * s + k)).toInt32 := (hA2.1.2.2 24 k (by unfold cset; omega)).trans (hRS.2.2 k hks)
          have h15 : J28 0 15 = P 97 k := by rw [(hA2.2 k rfl).1, hP]; exact (unl_97 h45 hz20 hkz).symm
          refine x_aload_n h dX0_wrongIn_31 rfl ?_
          refine x_getr h (j := 24) g_X0_190 (mlt hC.1 rfl) (hC.2.1 _ _ rfl) (by decide) (hC.2.2 _ _ _ rfl) dX0_wrongIn_32 ?_
          refine x_iload_n h dX0_wrongIn_35 rfl ?_
          refine x_iald h (mlt hC.1 rfl) (hC.2.1 _ _ rfl) (vp_in_nI (by omega) (by first | decide | omega)) (k) (nI_clamp (by omega)) dX0_wrongIn_36 ?_
          refine x_bipush h dX0_wrongIn_37 (9) rfl ?_
          refine x_icmp_eq h 57 dX0_wrongIn_39 rfl (fun c39 => ?_) (fun c39 => ?_)
          · skip
            refine x_iinc h dX0_wrongIn_57 (by decide) rfl (nI (k + 1)) (nI_1 k) [some (.ref (xb G + 0)), some (.ref (xb G + 34)), some (.int (nI (k + 1)))] rfl ?_
            refine x_goto h 2 dX0_wrongIn_60 rfl ?_
            exact ih (k + 1) J28 (by omega) (by omega) hA2 (by rw [hu, show 60 - k = 60 - (k + 1) + 1 by omega]; first | exact unlGo_2 (by rw [hPle]; exact nI_ge hks (by omega)) (by rw [unl_45, h45]; exact nI_ge hkz (by omega)) (by rw [told_n hs (by omega), ← h24]; exact c39) | exact unlGo_3 (by rw [hPle]; exact nI_ge hks (by omega)) (by rw [unl_45, h45]; exact nI_ge hkz (by omega)) (by rw [told_n hs (by omega), ← h24]; exact c39) (by rw [told_n hs (by omega), ← h24, ← h15]; exact c52))
          · skip
            refine x_aload_n h dX0_wrongIn_42 rfl ?_
            refine x_getr h (j := 24) g_X0_190 (mlt hC.1 rfl) (hC.2.1 _ _ rfl) (by decide) (hC.2.2 _ _ _ rfl) dX0_wrongIn_43 ?_
            refine x_iload_n h dX0_wrongIn_46 rfl ?_
            refine x_iald h (mlt hC.1 rfl) (hC.2.1 _ _ rfl) (vp_in_nI (by omega) (by first | decide | omega)) (k) (nI_clamp (by omega)) dX0_wrongIn_47 ?_
            refine x_aload_n h dX0_wrongIn_48 rfl ?_
            refine x_geti h g_X0_243 (mlt hC.1 rfl) (hC.2.1 _ _ rfl) rfl dX0_wrongIn_49 ?_
            refine x_icmp_eq h 57 dX0_wrongIn_52 rfl (fun c52 => ?_) (fun c52 => ?_)
            · skip
              refine x_iinc h dX0_wrongIn_57 (by decide) rfl (nI (k + 1)) (nI_1 k) [some (.ref (xb G + 0)), some (.ref (xb G + 34)), some (.int (nI (k + 1)))] rfl ?_
              refine x_goto h 2 dX0_wrongIn_60 rfl ?_
              exact ih (k + 1) J28 (by omega) (by omega) hA2 (by rw [hu, show 60 - k = 60 - (k + 1) + 1 by omega]; first | exact unlGo_2 (by rw [hPle]; exact nI_ge hks (by omega)) (by rw [unl_45, h45]; exact nI_ge hkz (by omega)) (by rw [told_n hs (by omega), ← h24]; exact c39) | exact unlGo_3 (by rw [hPle]; exact nI_ge hks (by omega)) (by rw [unl_45, h45]; exact nI_ge hkz (by omega)) (by rw [told_n hs (by omega), ← h24]; exact c39) (by rw [told_n hs (by omega), ← h24, ← h15]; exact c52))
            · skip
              refine x_iload_n h dX0_wrongIn_55 rfl ?_
              exact x_iret h dX0_wrongIn_56 rfl ⟨rfl, rfl, rfl, rfl, _, rfl, by rw [unl_1, ← hP, hu]; exact (unlGo_4 (by rw [unl_91 hs, hRS.2.1]; exact nI_ge hks (by omega)) (by rw [unl_45, h45]; exact nI_ge hkz (by omega)) (by rw [told_n hs (by omega), ← h24]; exact c39) (by rw [told_n hs (by omega), ← h24, ← h15]; exact c52)).symm, hA2.1.2.2⟩
        · skip
          have hkz : ¬ k < z := fun y => c15 ((nI_ltI (by omega) (by omega)).mpr y)
          refine x_iload_n h dX0_wrongIn_18 rfl ?_
          exact x_iret h dX0_wrongIn_19 rfl ⟨rfl, rfl, rfl, rfl, _, rfl, by rw [unl_1, ← hP, hu]; exact (unlGo_1 (by rw [unl_91 hs, hRS.2.1]; exact nI_ge hks (by omega)) (by rw [unl_45, h45]; exact (nI_leI (by omega) (by omega)).mpr (by omega))).symm, hf⟩
  exact lp2 (zs + 1) 0 I (by omega) (by omega) (rowF.zero hRC) rfl
