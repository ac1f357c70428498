/-! WALKS OF THE COMPONENT: a row with one coming more -/
theorem m_X0_308 : xcv RX0 308 0 yX0_putIn cX0_putIn 4 (none) 2 := ⟨_, _, _, rfl, lw_V q961 q963 qs31 q99 q964, rfl, by decide +kernel, by decide +kernel, by decide +kernel⟩
theorem m_X0_311 : xcv RX0 311 0 yX0_takeOut cX0_takeOut 3 (none) 1 := ⟨_, _, _, rfl, lw_V q965 q967 qs32 q99 q968, rfl, by decide +kernel, by decide +kernel, by decide +kernel⟩
set_option maxHeartbeats 4000000 in
theorem k0_putIn (l : Launch) (G : xG_T) (n : Nat) (Ty : Nat → xs_T) (F : xF_T) (hC : WC n Ty F) (I : xI_T) (L : xL_T) (p z : Nat) (v : Int32) (h19 : I 0 19 = nI z) (hpz : p ≤ z) (hz : z < 20) : CE l (0) yX0_putIn cX0_putIn 4 (none) G n Ty F [.ref (xb G + 0), .int (nI p), .int v] I L (none) (kputs I p v z) := by
  refine Cg.intro (cls := RX0) (pad := 1) (lv := [some (.ref (xb G + 0)), some (.int (nI p)), some (.int v), none]) rfl (by decide) (Nat.le_of_ble_eq_true rfl) rfl (fun Θ h => ?_)
  refine x_aload_n h dX0_putIn_0 rfl ?_
  refine x_geti h g_X0_275 (mlt hC.1 rfl) (hC.2.1 _ _ rfl) rfl dX0_putIn_1 ?_
  refine x_eqi (nI z) h19 ?_
  refine x_istore_n h dX0_putIn_4 rfl (by decide) [some (.ref (xb G + 0)), some (.int (nI p)), some (.int v), some (.int (nI z))] rfl ?_
  have lp5 : ∀ (d : Nat) (k : Nat) (A : xI_T), k < d → (p ≤ k ∧ k ≤ z) → (A = kpsh I k z) → X Θ 0 0 n Ty A L F 5 [some (.ref (xb G + 0)), some (.int (nI p)), some (.int v), some (.int (nI k))] [] := by
    intro d
    induction d with
    | zero =>
      intro k A hlt
      exact absurd hlt (Nat.not_lt_zero _)
    | succ d ih =>
      intro k A hlt hk hA
      refine x_iload_n h dX0_putIn_5 rfl ?_
      refine x_iload_n h dX0_putIn_6 rfl ?_
      refine x_icmp_le h 30 dX0_putIn_7 rfl (fun c7 => ?_) (fun c7 => ?_)
      · skip
        have hkp : k = p := by have := nI_leI (a := k) (b := p) (by omega) (by omega) |>.mp c7; omega
        refine x_aload_n h dX0_putIn_30 rfl ?_
        refine x_getr h (j := 22) g_X0_183 (mlt hC.1 rfl) (hC.2.1 _ _ rfl) (by decide) (hC.2.2 _ _ _ rfl) dX0_putIn_31 ?_
        refine x_iload_n h dX0_putIn_34 rfl ?_
        refine x_iload_n h dX0_putIn_35 rfl ?_
        refine x_iast h (mlt hC.1 rfl) (hC.2.1 _ _ rfl) (vp_in_nI (show p < 21 by omega) (by decide)) (p) (nI_clamp (by omega)) dX0_putIn_36 (fun J36 eJ36 => ?_)
        refine x_aload_n h dX0_putIn_37 rfl ?_
        refine x_dup h dX0_putIn_38 rfl ?_
        refine x_geti h g_X0_275 (mlt hC.1 rfl) (hC.2.1 _ _ rfl) rfl dX0_putIn_39 ?_
        refine x_eqi (nI z) (by rw [eJ36, up2_i _ _ (by decide), hA, kpsh_o (by decide)]; exact h19) ?_
        refine x_iconst h dX0_putIn_42 (1) rfl ?_
        refine x_iaddE h (nI (z + 1)) (nI_add z 1) dX0_putIn_43 ?_
        refine x_puti h p_X0_275 (mlt hC.1 rfl) (hC.2.1 _ _ rfl) rfl rfl rfl dX0_putIn_44 (fun J44 eJ44 => ?_)
        exact x_vret h dX0_putIn_47 rfl (xpE.to rfl (by rw [eJ44, eJ36, hA, hkp]; rfl) rfl rfl)
      · skip
        have hkp : p < k := Nat.lt_of_not_le fun y => c7 ((nI_leI (by omega) (by omega)).mpr y)
        refine x_aload_n h dX0_putIn_10 rfl ?_
        refine x_getr h (j := 22) g_X0_183 (mlt hC.1 rfl) (hC.2.1 _ _ rfl) (by decide) (hC.2.2 _ _ _ rfl) dX0_putIn_11 ?_
        refine x_iload_n h dX0_putIn_14 rfl ?_
        refine x_aload_n h dX0_putIn_15 rfl ?_
        refine x_getr h (j := 22) g_X0_183 (mlt hC.1 rfl) (hC.2.1 _ _ rfl) (by decide) (hC.2.2 _ _ _ rfl) dX0_putIn_16 ?_
        refine x_iload_n h dX0_putIn_19 rfl ?_
        refine x_iconst h dX0_putIn_20 (1) rfl ?_
        refine x_isubE h (nI (k - 1)) (nI_m1 (by omega)) dX0_putIn_21 ?_
        refine x_iald h (mlt hC.1 rfl) (hC.2.1 _ _ rfl) (vp_in_nI (show k - 1 < 21 by omega) (by decide)) (k - 1) (nI_clamp (by omega)) dX0_putIn_22 ?_
        refine x_iast h (mlt hC.1 rfl) (hC.2.1 _ _ rfl) (vp_in_nI (show k < 21 by omega) (by decide)) (k) (nI_clamp (by omega)) dX0_putIn_23 (fun J23 eJ23 => ?_)
        refine x_iinc h dX0_putIn_24 (by decide) rfl (nI (k - 1)) (nI_d1 (by omega)) [some (.ref (xb G + 0)), some (.int (nI p)), some (.int v), some (.int (nI (k - 1)))] rfl ?_
        refine x_goto h 5 dX0_putIn_27 rfl ?_
        exact ih (k - 1) J23 (by omega) (by omega) (by rw [eJ23, hA]; exact kpsh_up (by omega) (by omega))
  exact lp5 (z + 1) z I (by omega) (by omega) kpsh_z.symm
set_option maxHeartbeats 4000000 in
theorem k0_takeOut (l : Launch) (G : xG_T) (n : Nat) (Ty : Nat → xs_T) (F : xF_T) (hC : WC n Ty F) (I : xI_T) (L : xL_T) (p z : Nat) (h19 : I 0 19 = nI (z + 1)) (hpz : p ≤ z) (hz : z < 20) : CE l (0) yX0_takeOut cX0_takeOut 3 (none) G n Ty F [.ref (xb G + 0), .int (nI p)] I L (none) (ktakes I p z) := by
  refine Cg.intro (cls := RX0) (pad := 1) (lv := [some (.ref (xb G + 0)), some (.int (nI p)), none]) rfl (by decide) (Nat.le_of_ble_eq_true rfl) rfl (fun Θ h => ?_)
  refine x_aload_n h dX0_takeOut_0 rfl ?_
  refine x_dup h dX0_takeOut_1 rfl ?_
  refine x_geti h g_X0_275 (mlt hC.1 rfl) (hC.2.1 _ _ rfl) rfl dX0_takeOut_2 ?_
  refine x_eqi (nI (z + 1)) h19 ?_
  refine x_iconst h dX0_takeOut_5 (1) rfl ?_
  refine x_isubE h (nI z) (nI_pred z) dX0_takeOut_6 ?_
  refine x_puti h p_X0_275 (mlt hC.1 rfl) (hC.2.1 _ _ rfl) rfl rfl rfl dX0_takeOut_7 (fun J7 eJ7 => ?_)
  refine x_iload_n h dX0_takeOut_10 rfl ?_
  refine x_istore_n h dX0_takeOut_11 rfl (by decide) [some (.ref (xb G + 0)), some (.int (nI p)), some (.int (nI p))] rfl ?_
  have lp12 : ∀ (d : Nat) (k : Nat) (A : xI_T), z - k < d → (p ≤ k ∧ k ≤ z) → (A = cpy2 J7 22 p 22 (p + 1) (k - p)) → X Θ 0 0 n Ty A L F 12 [some (.ref (xb G + 0)), some (.int (nI p)), some (.int (nI k))] [] := by
    intro d
    induction d with
    | zero =>
      intro k A hlt
      exact absurd hlt (Nat.not_lt_zero _)
    | succ d ih =>
      intro k A hlt hk hA
      have h19k : A 0 19 = nI z := by rw [hA, cpy2_ap, if_neg (by omega), eJ7, up2_s]
      refine x_iload_n h dX0_takeOut_12 rfl ?_
      refine x_aload_n h dX0_takeOut_13 rfl ?_
      refine x_geti h g_X0_275 (mlt hC.1 rfl) (hC.2.1 _ _ rfl) rfl dX0_takeOut_14 ?_
      refine x_eqi (nI z) h19k ?_
      refine x_icmp_ge h 40 dX0_takeOut_17 rfl (fun c17 => ?_) (fun c17 => ?_)
      · skip
        have hkz : k = z := by have := nI_leI (a := z) (b := k) (by omega) (by omega) |>.mp c17; omega
        exact x_vret h dX0_takeOut_40 rfl (xpE.to rfl (by rw [hA, hkz, eJ7]; rfl) rfl rfl)
      · skip
        have hkz : k < z := Nat.lt_of_not_le fun y => c17 ((nI_leI (by omega) (by omega)).mpr y)
        refine x_aload_n h dX0_takeOut_20 rfl ?_
        refine x_getr h (j := 22) g_X0_183 (mlt hC.1 rfl) (hC.2.1 _ _ rfl) (by decide) (hC.2.2 _ _ _ rfl) dX0_takeOut_21 ?_
        refine x_iload_n h dX0_takeOut_24 rfl ?_
        refine x_aload_n h dX0_takeOut_25 rfl ?_
        refine x_getr h (j := 22) g_X0_183 (mlt hC.1 rfl) (hC.2.1 _ _ rfl) (by decide) (hC.2.2 _ _ _ rfl) dX0_takeOut_26 ?_
        refine x_iload_n h dX0_takeOut_29 rfl ?_
        refine x_iconst h dX0_takeOut_30 (1) rfl ?_
        refine x_iaddE h (nI (k + 1)) (nI_add k 1) dX0_takeOut_31 ?_
        refine x_iald h (mlt hC.1 rfl) (hC.2.1 _ _ rfl) (vp_in_nI (show k + 1 < 21 by omega) (by decide)) (k + 1) (nI_clamp (by omega)) dX0_takeOut_32 ?_
        refine x_iast h (mlt hC.1 rfl) (hC.2.1 _ _ rfl) (vp_in_nI (show k < 21 by omega) (by decide)) (k) (nI_clamp (by omega)) dX0_takeOut_33 (fun J33 eJ33 => ?_)
        refine x_iinc h dX0_takeOut_34 (by decide) rfl (nI (k + 1)) (nI_1 k) [some (.ref (xb G + 0)), some (.int (nI p)), some (.int (nI (k + 1)))] rfl ?_
        refine x_goto h 12 dX0_takeOut_37 rfl ?_
        exact ih (k + 1) J33 (by omega) (by omega) (by rw [eJ33, hA]; have y := cpy2_up (I := J7) (a := 22) (o := p) (b := 22) (p := p + 1) (c := k - p) (Or.inr (by omega)); rw [show p + (k - p) = k by omega, show p + 1 + (k - p) = k + 1 by omega, show k - p + 1 = k + 1 - p by omega] at y; exact y)
  exact lp12 (z + 1) p J7 (by omega) (by omega) (by rw [Nat.sub_self]; exact cpy2_z.symm)
set_option maxHeartbeats 4000000 in
theorem k0_change (l : Launch) (G : xG_T) (n : Nat) (Ty : Nat → xs_T) (F : xF_T) (hC : WC n Ty F) (I : xI_T) (L : xL_T) (k : Nat) (hk : k + 1 < 21) : CE l (0) yX0_change cX0_change 3 (none) G n Ty F [.ref (xb G + 0), .int (nI k)] I L (none) (kswap I k) := by
  refine Cg.intro (cls := RX0) (pad := 1) (lv := [some (.ref (xb G + 0)), some (.int (nI k)), none]) rfl (by decide) (Nat.le_of_ble_eq_true rfl) rfl (fun Θ h => ?_)
  refine x_aload_n h dX0_change_0 rfl ?_
  refine x_getr h (j := 22) g_X0_183 (mlt hC.1 rfl) (hC.2.1 _ _ rfl) (by decide) (hC.2.2 _ _ _ rfl) dX0_change_1 ?_
  refine x_iload_n h dX0_change_4 rfl ?_
  refine x_iald h (mlt hC.1 rfl) (hC.2.1 _ _ rfl) (vp_in_nI (show k < 21 by omega) (by decide)) (k) (nI_clamp (by omega)) dX0_change_5 ?_
  refine x_nmi (fun v6 ev6 => ?_)
  refine x_istore_n h dX0_change_6 rfl (by decide) [some (.ref (xb G + 0)), some (.int (nI k)), some (.int v6)] rfl ?_
  refine x_aload_n h dX0_change_7 rfl ?_
  refine x_getr h (j := 22) g_X0_183 (mlt hC.1 rfl) (hC.2.1 _ _ rfl) (by decide) (hC.2.2 _ _ _ rfl) dX0_change_8 ?_
  refine x_iload_n h dX0_change_11 rfl ?_
  refine x_aload_n h dX0_change_12 rfl ?_
  refine x_getr h (j := 22) g_X0_183 (mlt hC.1 rfl) (hC.2.1 _ _ rfl) (by decide) (hC.2.2 _ _ _ rfl) dX0_change_13 ?_
  refine x_iload_n h dX0_change_16 rfl ?_
  refine x_iconst h dX0_change_17 (1) rfl ?_
  refine x_iaddE h (nI (k + 1)) (nI_add k 1) dX0_change_18 ?_
  refine x_iald h (mlt hC.1 rfl) (hC.2.1 _ _ rfl) (vp_in_nI (show k + 1 < 21 by omega) (by decide)) (k + 1) (nI_clamp (by omega)) dX0_change_19 ?_
  refine x_iast h (mlt hC.1 rfl) (hC.2.1 _ _ rfl) (vp_in_nI (show k < 21 by omega) (by decide)) (k) (nI_clamp (by omega)) dX0_change_20 (fun J20 eJ20 => ?_)
  refine x_aload_n h dX0_change_21 rfl ?_
  refine x_getr h (j := 22) g_X0_183 (mlt hC.1 rfl) (hC.2.1 _ _ rfl) (by decide) (hC.2.2 _ _ _ rfl) dX0_change_22 ?_
  refine x_iload_n h dX0_change_25 rfl ?_
  refine x_iconst h dX0_change_26 (1) rfl ?_
  refine x_iaddE h (nI (k + 1)) (nI_add k 1) dX0_change_27 ?_
  refine x_iload_n h dX0_change_28 rfl ?_
  refine x_iast h (mlt hC.1 rfl) (hC.2.1 _ _ rfl) (vp_in_nI (show k + 1 < 21 by omega) (by decide)) (k + 1) (nI_clamp (by omega)) dX0_change_29 (fun J29 eJ29 => ?_)
  exact x_vret h dX0_change_30 rfl (xpE.to rfl (by rw [eJ29, eJ20, ev6]; rfl) rfl rfl)
set_option maxHeartbeats 4000000 in
theorem k0_purseWith (l : Launch) (G : xG_T) (n : Nat) (Ty : Nat → xs_T) (F : xF_T) (hC : WC n Ty F) (I : xI_T) (L : xL_T) (J : xI_T) (p w y z : Nat) (hQ : QS n Ty I F J) (hR : RW I J z) (h45 : J 70 45 = nI z) (hpz : p ≤ z) (hz : z < 20) (hw : w < ix (J 70 0)) (hy : y < ix (J 70 0)) : CR l (270) yX0_purseWith cX0_purseWith 5 (some .int) G n Ty F [.ref (xb G + 0), .int (nI p), .int (nI w), .int (nI y)] I L (aR (fun r I2 => r = (m_try J p (nI w) (nI y)).1 ∧ RW I2 (m_try J p (nI w) (nI y)).2 z ∧ Fr q2set I I2)) := by
  refine Cg.intro (cls := RX0) (pad := 1) (lv := [some (.ref (xb G + 0)), some (.int (nI p)), some (.int (nI w)), some (.int (nI y)), none]) rfl (by decide) (Nat.le_of_ble_eq_true rfl) rfl (fun Θ h => ?_)
  obtain ⟨nb, hnb, enb, enx, hnI⟩ := hQ.nb
  have hy8 : y < 8 := by omega
  refine x_aload_n h dX0_purseWith_0 rfl ?_
  refine x_iload_n h dX0_purseWith_1 rfl ?_
  refine x_iload_n h dX0_purseWith_2 rfl ?_
  refine x_callVEv h (As := [.int _, .int _]) (k0_putIn l G n _ _ hC _ _ p z (nI w) hR.1 hpz hz) m_X0_308 (mlt hC.1 rfl) (hC.2.1 _ _ rfl) dX0_purseWith_3 ⟨by decide, by decide⟩ ⟨by decide, by decide⟩ rfl (Nat.le_of_ble_eq_true rfl) ?_
  refine x_nmI (fun J3 eJ3 => ?_)
  have hf3 : Fr q2set I J3 := by rw [eJ3]; exact fun q j z9 => kputs_o (fun y9 => z9 (rset_q y9))
  have hR3 : RW J3 (m_puts J p (nI w)) (z + 1) := by rw [eJ3]; exact puts_RW hR h45 hpz hz hw
  have hQ3 : QS n Ty J3 F (m_puts J p (nI w)) := hQ.fr hf3.q puts_pj
  have h453 : m_puts J p (nI w) 70 45 = nI (z + 1) := by rw [puts_45, h45, nI_1]
  have h703 : m_puts J p (nI w) 70 0 = J 70 0 := puts_i (by decide) (by omega)
  generalize hK : m_puts J p (nI w) = K at hR3 hQ3 h453 h703
  refine x_aload_n h dX0_purseWith_6 rfl ?_
  refine x_callVRr h (As := []) (k0_behindRow l G n _ _ hC _ _ K (z + 1) hQ3.1 hQ3.2.1 hQ3.2.2.1 hQ3.2.2.2 hR3) m_X0_302 (mlt hC.1 rfl) (hC.2.1 _ _ rfl) dX0_purseWith_7 ⟨by decide, by decide⟩ ⟨by decide, by decide⟩ rfl (Nat.le_of_ble_eq_true rfl) (fun J7 hp7 => ?_)
  have hv7 : J7 35 y = (m_pursB K (nI y)).1 := beh_p hp7 h453 (by omega) (by rw [h703]; exact hy) (by rw [h703, enx]; exact hnb)
  have hR7 : RW J7 (m_pursB K (nI y)).2 (z + 1) := pursB_RW hR3 hp7.2.2.2
  refine x_getrN h (j := 35) g_X0_207 (mlt hC.1 rfl) (hC.2.1 _ _ rfl) (by decide) (hC.2.2 _ _ _ rfl) dX0_purseWith_10 ?_
  refine x_iload_n h dX0_purseWith_13 rfl ?_
  refine x_iald h (mlt hC.1 rfl) (hC.2.1 _ _ rfl) (vp_in_nI hy8 (by decide)) (y) (nI_clamp (by omega)) dX0_purseWith_14 ?_
  refine x_nmi (fun v15 ev15 => ?_)
  refine x_istore h dX0_purseWith_15 (by decide) [some (.ref (xb G + 0)), some (.int (nI p)), some (.int (nI w)), some (.int (nI y)), some (.int v15)] rfl ?_
  refine x_aload_n h dX0_purseWith_17 rfl ?_
  refine x_iload_n h dX0_purseWith_18 rfl ?_
  refine x_callVEv h (As := [.int _]) (k0_takeOut l G n _ _ hC _ _ p z hR7.1 hpz hz) m_X0_311 (mlt hC.1 rfl) (hC.2.1 _ _ rfl) dX0_purseWith_19 ⟨by decide, by decide⟩ ⟨by decide, by decide⟩ rfl (Nat.le_of_ble_eq_true rfl) ?_
  refine x_nmI (fun J19 eJ19 => ?_)
  refine x_iload h dX0_purseWith_22 rfl ?_
  exact x_iret h dX0_purseWith_24 rfl ⟨rfl, rfl, rfl, rfl, _, rfl, by rw [ev15, m_try, hK]; exact hv7, by rw [eJ19, m_try, hK]; exact takes_RW hR7 (by rw [pursB_45]; exact h453) hpz, (hf3.tr (hp7.2.2.2.sub fun _ _ z => bset_2 z)).tr (by rw [eJ19]; exact fun q j z9 => ktakes_o (fun y9 => z9 (rset_q y9)))⟩
