/-! WALKS OF THE COMPONENT: what bodies do -/
theorem go_X15_3_15 : xfg RX15 3 15 1 := ⟨_, _, _, rfl, by decide, in_X15, q1118, rfl⟩
theorem g_X15_19 : xfgN RX15 19 0 39 := ⟨_, _, _, _, rfl, by decide, in_X0, q747, rfl⟩
theorem p_X15_19 : xfpN RX15 19 0 39 (tyX0 39) := ⟨_, _, _, _, tyX0, rfl, by decide, in_X0, q747, rfl, tyX0_ok, nmX0, tyX0_ok 39 (by decide), rfl⟩
theorem g_X15_22 : xfgN RX15 22 0 40 := ⟨_, _, _, _, rfl, by decide, in_X0, q749, rfl⟩
theorem go_X15_3_16 : xfg RX15 3 16 1 := ⟨_, _, _, rfl, by decide, in_X16, q1118, rfl⟩
theorem go_X15_3_17 : xfg RX15 3 17 1 := ⟨_, _, _, rfl, by decide, in_X17, q1118, rfl⟩
theorem go_X15_3_18 : xfg RX15 3 18 1 := ⟨_, _, _, rfl, by decide, in_X18, q1118, rfl⟩
theorem go_X15_3_19 : xfg RX15 3 19 1 := ⟨_, _, _, rfl, by decide, in_X19, q1118, rfl⟩
theorem go_X15_3_20 : xfg RX15 3 20 1 := ⟨_, _, _, rfl, by decide, in_X20, q1118, rfl⟩
theorem go_X15_3_21 : xfg RX15 3 21 1 := ⟨_, _, _, rfl, by decide, in_X21, q1118, rfl⟩
theorem go_X15_3_22 : xfg RX15 3 22 1 := ⟨_, _, _, rfl, by decide, in_X22, q1118, rfl⟩
set_option maxHeartbeats 4000000 in
theorem k15_began_15 (l : Launch) (G : xG_T) (n : Nat) (Ty : Nat → xs_T) (F : xF_T) (hC : WC n Ty F) (I : xI_T) (L : xL_T) (q t : Nat) (c : Int32) (hq3 : 103 ≤ q) (hqn : q < n) (hqT : Ty q = some (.inl 15)) (hq1 : F q 1 = some 0) (ht : I 0 39 = nI t) (h9 : t < 900) (hc : c.toInt8.toInt32 = c) : CE l (0) yX15_began cX15_began 2 (none) G n Ty F [.ref (xb G + q), .int c] I L (none) (k_ran I c) := by
  refine Cg.intro (cls := RX15) (pad := 0) (lv := [some (.ref (xb G + q)), some (.int c)]) rfl (by decide) (Nat.le_of_ble_eq_true rfl) rfl (fun Θ h => ?_)
  refine x_aload_n h dX15_began_0 rfl ?_
  refine x_getr h (j := 0) go_X15_3_15 hqn hqT (by decide) hq1 dX15_began_1 ?_
  refine x_getiN h g_X15_19 (mlt hC.1 rfl) (hC.2.1 _ _ rfl) rfl dX15_began_4 ?_
  refine x_eqi (nI t) ht ?_
  refine x_bipush h dX15_began_7 (24) rfl ?_
  refine x_icmp_ge h 29 dX15_began_9 rfl (fun c9 => ?_) (fun c9 => ?_)
  · skip
    have h24 : ¬ nI t < 24 := Int32.not_lt.mpr c9
    refine x_aload_n h dX15_began_29 rfl ?_
    refine x_getr h (j := 0) go_X15_3_15 hqn hqT (by decide) hq1 dX15_began_30 ?_
    refine x_dup h dX15_began_33 rfl ?_
    refine x_getiN h g_X15_19 (mlt hC.1 rfl) (hC.2.1 _ _ rfl) rfl dX15_began_34 ?_
    refine x_eqi (nI t) (by first | exact ht | (rw [e28, up2_i _ _ (show (0 : Nat) ≠ 31 by decide)]; exact ht)) ?_
    refine x_iconst h dX15_began_37 (1) rfl ?_
    refine x_iaddE h (nI (t + 1)) (nI_add t 1) dX15_began_38 ?_
    refine x_putiN h p_X15_19 (mlt hC.1 rfl) (hC.2.1 _ _ rfl) rfl rfl rfl dX15_began_39 (fun J39 eJ39 => ?_)
    exact x_vret h dX15_began_42 rfl (xpE.to rfl (by unfold k_ran; rw [ht, ix_n (by omega), nI_1]; first | (rw [if_pos h24, eJ39, e28]; done) | (rw [if_neg h24, eJ39]; done)) rfl rfl)
  · skip
    have h24 : nI t < 24 := Int32.not_le.mp c9
    have ht24 : t < 24 := (nI_ltI (b := 24) (by omega) (by decide)).mp h24
    refine x_aload_n h dX15_began_12 rfl ?_
    refine x_getr h (j := 0) go_X15_3_15 hqn hqT (by decide) hq1 dX15_began_13 ?_
    refine x_getrN h (j := 31) g_X15_22 (mlt hC.1 rfl) (hC.2.1 _ _ rfl) (by decide) (hC.2.2 _ _ _ rfl) dX15_began_16 ?_
    refine x_aload_n h dX15_began_19 rfl ?_
    refine x_getr h (j := 0) go_X15_3_15 hqn hqT (by decide) hq1 dX15_began_20 ?_
    refine x_getiN h g_X15_19 (mlt hC.1 rfl) (hC.2.1 _ _ rfl) rfl dX15_began_23 ?_
    refine x_eqi (nI t) ht ?_
    refine x_iload_n h dX15_began_26 rfl ?_
    refine x_i2b h dX15_began_27 ?_
    refine x_bast h (mlt hC.1 rfl) (hC.2.1 _ _ rfl) (vp_in_nI ht24 (by decide)) (t) (nI_clamp (by omega)) dX15_began_28 (fun J28 eJ28 => ?_)
    have e28 : J28 = up2 I 31 t c := by rw [eJ28, nar_b, hc]
    refine x_aload_n h dX15_began_29 rfl ?_
    refine x_getr h (j := 0) go_X15_3_15 hqn hqT (by decide) hq1 dX15_began_30 ?_
    refine x_dup h dX15_began_33 rfl ?_
    refine x_getiN h g_X15_19 (mlt hC.1 rfl) (hC.2.1 _ _ rfl) rfl dX15_began_34 ?_
    refine x_eqi (nI t) (by first | exact ht | (rw [e28, up2_i _ _ (show (0 : Nat) ≠ 31 by decide)]; exact ht)) ?_
    refine x_iconst h dX15_began_37 (1) rfl ?_
    refine x_iaddE h (nI (t + 1)) (nI_add t 1) dX15_began_38 ?_
    refine x_putiN h p_X15_19 (mlt hC.1 rfl) (hC.2.1 _ _ rfl) rfl rfl rfl dX15_began_39 (fun J39 eJ39 => ?_)
    exact x_vret h dX15_began_42 rfl (xpE.to rfl (by unfold k_ran; rw [ht, ix_n (by omega), nI_1]; first | (rw [if_pos h24, eJ39, e28]; done) | (rw [if_neg h24, eJ39]; done)) rfl rfl)
set_option maxHeartbeats 4000000 in
theorem k15_began_16 (l : Launch) (G : xG_T) (n : Nat) (Ty : Nat → xs_T) (F : xF_T) (hC : WC n Ty F) (I : xI_T) (L : xL_T) (q t : Nat) (c : Int32) (hq3 : 103 ≤ q) (hqn : q < n) (hqT : Ty q = some (.inl 16)) (hq1 : F q 1 = some 0) (ht : I 0 39 = nI t) (h9 : t < 900) (hc : c.toInt8.toInt32 = c) : CE l (0) yX15_began cX15_began 2 (none) G n Ty F [.ref (xb G + q), .int c] I L (none) (k_ran I c) := by
  refine Cg.intro (cls := RX15) (pad := 0) (lv := [some (.ref (xb G + q)), some (.int c)]) rfl (by decide) (Nat.le_of_ble_eq_true rfl) rfl (fun Θ h => ?_)
  refine x_aload_n h dX15_began_0 rfl ?_
  refine x_getr h (j := 0) go_X15_3_16 hqn hqT (by decide) hq1 dX15_began_1 ?_
  refine x_getiN h g_X15_19 (mlt hC.1 rfl) (hC.2.1 _ _ rfl) rfl dX15_began_4 ?_
  refine x_eqi (nI t) ht ?_
  refine x_bipush h dX15_began_7 (24) rfl ?_
  refine x_icmp_ge h 29 dX15_began_9 rfl (fun c9 => ?_) (fun c9 => ?_)
  · skip
    have h24 : ¬ nI t < 24 := Int32.not_lt.mpr c9
    refine x_aload_n h dX15_began_29 rfl ?_
    refine x_getr h (j := 0) go_X15_3_16 hqn hqT (by decide) hq1 dX15_began_30 ?_
    refine x_dup h dX15_began_33 rfl ?_
    refine x_getiN h g_X15_19 (mlt hC.1 rfl) (hC.2.1 _ _ rfl) rfl dX15_began_34 ?_
    refine x_eqi (nI t) (by first | exact ht | (rw [e28, up2_i _ _ (show (0 : Nat) ≠ 31 by decide)]; exact ht)) ?_
    refine x_iconst h dX15_began_37 (1) rfl ?_
    refine x_iaddE h (nI (t + 1)) (nI_add t 1) dX15_began_38 ?_
    refine x_putiN h p_X15_19 (mlt hC.1 rfl) (hC.2.1 _ _ rfl) rfl rfl rfl dX15_began_39 (fun J39 eJ39 => ?_)
    exact x_vret h dX15_began_42 rfl (xpE.to rfl (by unfold k_ran; rw [ht, ix_n (by omega), nI_1]; first | (rw [if_pos h24, eJ39, e28]; done) | (rw [if_neg h24, eJ39]; done)) rfl rfl)
  · skip
    have h24 : nI t < 24 := Int32.not_le.mp c9
    have ht24 : t < 24 := (nI_ltI (b := 24) (by omega) (by decide)).mp h24
    refine x_aload_n h dX15_began_12 rfl ?_
    refine x_getr h (j := 0) go_X15_3_16 hqn hqT (by decide) hq1 dX15_began_13 ?_
    refine x_getrN h (j := 31) g_X15_22 (mlt hC.1 rfl) (hC.2.1 _ _ rfl) (by decide) (hC.2.2 _ _ _ rfl) dX15_began_16 ?_
    refine x_aload_n h dX15_began_19 rfl ?_
    refine x_getr h (j := 0) go_X15_3_16 hqn hqT (by decide) hq1 dX15_began_20 ?_
    refine x_getiN h g_X15_19 (mlt hC.1 rfl) (hC.2.1 _ _ rfl) rfl dX15_began_23 ?_
    refine x_eqi (nI t) ht ?_
    refine x_iload_n h dX15_began_26 rfl ?_
    refine x_i2b h dX15_began_27 ?_
    refine x_bast h (mlt hC.1 rfl) (hC.2.1 _ _ rfl) (vp_in_nI ht24 (by decide)) (t) (nI_clamp (by omega)) dX15_began_28 (fun J28 eJ28 => ?_)
    have e28 : J28 = up2 I 31 t c := by rw [eJ28, nar_b, hc]
    refine x_aload_n h dX15_began_29 rfl ?_
    refine x_getr h (j := 0) go_X15_3_16 hqn hqT (by decide) hq1 dX15_began_30 ?_
    refine x_dup h dX15_began_33 rfl ?_
    refine x_getiN h g_X15_19 (mlt hC.1 rfl) (hC.2.1 _ _ rfl) rfl dX15_began_34 ?_
    refine x_eqi (nI t) (by first | exact ht | (rw [e28, up2_i _ _ (show (0 : Nat) ≠ 31 by decide)]; exact ht)) ?_
    refine x_iconst h dX15_began_37 (1) rfl ?_
    refine x_iaddE h (nI (t + 1)) (nI_add t 1) dX15_began_38 ?_
    refine x_putiN h p_X15_19 (mlt hC.1 rfl) (hC.2.1 _ _ rfl) rfl rfl rfl dX15_began_39 (fun J39 eJ39 => ?_)
    exact x_vret h dX15_began_42 rfl (xpE.to rfl (by unfold k_ran; rw [ht, ix_n (by omega), nI_1]; first | (rw [if_pos h24, eJ39, e28]; done) | (rw [if_neg h24, eJ39]; done)) rfl rfl)
set_option maxHeartbeats 4000000 in
theorem k15_began_17 (l : Launch) (G : xG_T) (n : Nat) (Ty : Nat → xs_T) (F : xF_T) (hC : WC n Ty F) (I : xI_T) (L : xL_T) (q t : Nat) (c : Int32) (hq3 : 103 ≤ q) (hqn : q < n) (hqT : Ty q = some (.inl 17)) (hq1 : F q 1 = some 0) (ht : I 0 39 = nI t) (h9 : t < 900) (hc : c.toInt8.toInt32 = c) : CE l (0) yX15_began cX15_began 2 (none) G n Ty F [.ref (xb G + q), .int c] I L (none) (k_ran I c) := by
  refine Cg.intro (cls := RX15) (pad := 0) (lv := [some (.ref (xb G + q)), some (.int c)]) rfl (by decide) (Nat.le_of_ble_eq_true rfl) rfl (fun Θ h => ?_)
  refine x_aload_n h dX15_began_0 rfl ?_
  refine x_getr h (j := 0) go_X15_3_17 hqn hqT (by decide) hq1 dX15_began_1 ?_
  refine x_getiN h g_X15_19 (mlt hC.1 rfl) (hC.2.1 _ _ rfl) rfl dX15_began_4 ?_
  refine x_eqi (nI t) ht ?_
  refine x_bipush h dX15_began_7 (24) rfl ?_
  refine x_icmp_ge h 29 dX15_began_9 rfl (fun c9 => ?_) (fun c9 => ?_)
  · skip
    have h24 : ¬ nI t < 24 := Int32.not_lt.mpr c9
    refine x_aload_n h dX15_began_29 rfl ?_
    refine x_getr h (j := 0) go_X15_3_17 hqn hqT (by decide) hq1 dX15_began_30 ?_
    refine x_dup h dX15_began_33 rfl ?_
    refine x_getiN h g_X15_19 (mlt hC.1 rfl) (hC.2.1 _ _ rfl) rfl dX15_began_34 ?_
    refine x_eqi (nI t) (by first | exact ht | (rw [e28, up2_i _ _ (show (0 : Nat) ≠ 31 by decide)]; exact ht)) ?_
    refine x_iconst h dX15_began_37 (1) rfl ?_
    refine x_iaddE h (nI (t + 1)) (nI_add t 1) dX15_began_38 ?_
    refine x_putiN h p_X15_19 (mlt hC.1 rfl) (hC.2.1 _ _ rfl) rfl rfl rfl dX15_began_39 (fun J39 eJ39 => ?_)
    exact x_vret h dX15_began_42 rfl (xpE.to rfl (by unfold k_ran; rw [ht, ix_n (by omega), nI_1]; first | (rw [if_pos h24, eJ39, e28]; done) | (rw [if_neg h24, eJ39]; done)) rfl rfl)
  · skip
    have h24 : nI t < 24 := Int32.not_le.mp c9
    have ht24 : t < 24 := (nI_ltI (b := 24) (by omega) (by decide)).mp h24
    refine x_aload_n h dX15_began_12 rfl ?_
    refine x_getr h (j := 0) go_X15_3_17 hqn hqT (by decide) hq1 dX15_began_13 ?_
    refine x_getrN h (j := 31) g_X15_22 (mlt hC.1 rfl) (hC.2.1 _ _ rfl) (by decide) (hC.2.2 _ _ _ rfl) dX15_began_16 ?_
    refine x_aload_n h dX15_began_19 rfl ?_
    refine x_getr h (j := 0) go_X15_3_17 hqn hqT (by decide) hq1 dX15_began_20 ?_
    refine x_getiN h g_X15_19 (mlt hC.1 rfl) (hC.2.1 _ _ rfl) rfl dX15_began_23 ?_
    refine x_eqi (nI t) ht ?_
    refine x_iload_n h dX15_began_26 rfl ?_
    refine x_i2b h dX15_began_27 ?_
    refine x_bast h (mlt hC.1 rfl) (hC.2.1 _ _ rfl) (vp_in_nI ht24 (by decide)) (t) (nI_clamp (by omega)) dX15_began_28 (fun J28 eJ28 => ?_)
    have e28 : J28 = up2 I 31 t c := by rw [eJ28, nar_b, hc]
    refine x_aload_n h dX15_began_29 rfl ?_
    refine x_getr h (j := 0) go_X15_3_17 hqn hqT (by decide) hq1 dX15_began_30 ?_
    refine x_dup h dX15_began_33 rfl ?_
    refine x_getiN h g_X15_19 (mlt hC.1 rfl) (hC.2.1 _ _ rfl) rfl dX15_began_34 ?_
    refine x_eqi (nI t) (by first | exact ht | (rw [e28, up2_i _ _ (show (0 : Nat) ≠ 31 by decide)]; exact ht)) ?_
    refine x_iconst h dX15_began_37 (1) rfl ?_
    refine x_iaddE h (nI (t + 1)) (nI_add t 1) dX15_began_38 ?_
    refine x_putiN h p_X15_19 (mlt hC.1 rfl) (hC.2.1 _ _ rfl) rfl rfl rfl dX15_began_39 (fun J39 eJ39 => ?_)
    exact x_vret h dX15_began_42 rfl (xpE.to rfl (by unfold k_ran; rw [ht, ix_n (by omega), nI_1]; first | (rw [if_pos h24, eJ39, e28]; done) | (rw [if_neg h24, eJ39]; done)) rfl rfl)
set_option maxHeartbeats 4000000 in
theorem k15_began_18 (l : Launch) (G : xG_T) (n : Nat) (Ty : Nat → xs_T) (F : xF_T) (hC : WC n Ty F) (I : xI_T) (L : xL_T) (q t : Nat) (c : Int32) (hq3 : 103 ≤ q) (hqn : q < n) (hqT : Ty q = some (.inl 18)) (hq1 : F q 1 = some 0) (ht : I 0 39 = nI t) (h9 : t < 900) (hc : c.toInt8.toInt32 = c) : CE l (0) yX15_began cX15_began 2 (none) G n Ty F [.ref (xb G + q), .int c] I L (none) (k_ran I c) := by
  refine Cg.intro (cls := RX15) (pad := 0) (lv := [some (.ref (xb G + q)), some (.int c)]) rfl (by decide) (Nat.le_of_ble_eq_true rfl) rfl (fun Θ h => ?_)
  refine x_aload_n h dX15_began_0 rfl ?_
  refine x_getr h (j := 0) go_X15_3_18 hqn hqT (by decide) hq1 dX15_began_1 ?_
  refine x_getiN h g_X15_19 (mlt hC.1 rfl) (hC.2.1 _ _ rfl) rfl dX15_began_4 ?_
  refine x_eqi (nI t) ht ?_
  refine x_bipush h dX15_began_7 (24) rfl ?_
  refine x_icmp_ge h 29 dX15_began_9 rfl (fun c9 => ?_) (fun c9 => ?_)
  · skip
    have h24 : ¬ nI t < 24 := Int32.not_lt.mpr c9
    refine x_aload_n h dX15_began_29 rfl ?_
    refine x_getr h (j := 0) go_X15_3_18 hqn hqT (by decide) hq1 dX15_began_30 ?_
    refine x_dup h dX15_began_33 rfl ?_
    refine x_getiN h g_X15_19 (mlt hC.1 rfl) (hC.2.1 _ _ rfl) rfl dX15_began_34 ?_
    refine x_eqi (nI t) (by first | exact ht | (rw [e28, up2_i _ _ (show (0 : Nat) ≠ 31 by decide)]; exact ht)) ?_
    refine x_iconst h dX15_began_37 (1) rfl ?_
    refine x_iaddE h (nI (t + 1)) (nI_add t 1) dX15_began_38 ?_
    refine x_putiN h p_X15_19 (mlt hC.1 rfl) (hC.2.1 _ _ rfl) rfl rfl rfl dX15_began_39 (fun J39 eJ39 => ?_)
    exact x_vret h dX15_began_42 rfl (xpE.to rfl (by unfold k_ran; rw [ht, ix_n (by omega), nI_1]; first | (rw [if_pos h24, eJ39, e28]; done) | (rw [if_neg h24, eJ39]; done)) rfl rfl)
  · skip
    have h24 : nI t < 24 := Int32.not_le.mp c9
    have ht24 : t < 24 := (nI_ltI (b := 24) (by omega) (by decide)).mp h24
    refine x_aload_n h dX15_began_12 rfl ?_
    refine x_getr h (j := 0) go_X15_3_18 hqn hqT (by decide) hq1 dX15_began_13 ?_
    refine x_getrN h (j := 31) g_X15_22 (mlt hC.1 rfl) (hC.2.1 _ _ rfl) (by decide) (hC.2.2 _ _ _ rfl) dX15_began_16 ?_
    refine x_aload_n h dX15_began_19 rfl ?_
    refine x_getr h (j := 0) go_X15_3_18 hqn hqT (by decide) hq1 dX15_began_20 ?_
    refine x_getiN h g_X15_19 (mlt hC.1 rfl) (hC.2.1 _ _ rfl) rfl dX15_began_23 ?_
    refine x_eqi (nI t) ht ?_
    refine x_iload_n h dX15_began_26 rfl ?_
    refine x_i2b h dX15_began_27 ?_
    refine x_bast h (mlt hC.1 rfl) (hC.2.1 _ _ rfl) (vp_in_nI ht24 (by decide)) (t) (nI_clamp (by omega)) dX15_began_28 (fun J28 eJ28 => ?_)
    have e28 : J28 = up2 I 31 t c := by rw [eJ28, nar_b, hc]
    refine x_aload_n h dX15_began_29 rfl ?_
    refine x_getr h (j := 0) go_X15_3_18 hqn hqT (by decide) hq1 dX15_began_30 ?_
    refine x_dup h dX15_began_33 rfl ?_
    refine x_getiN h g_X15_19 (mlt hC.1 rfl) (hC.2.1 _ _ rfl) rfl dX15_began_34 ?_
    refine x_eqi (nI t) (by first | exact ht | (rw [e28, up2_i _ _ (show (0 : Nat) ≠ 31 by decide)]; exact ht)) ?_
    refine x_iconst h dX15_began_37 (1) rfl ?_
    refine x_iaddE h (nI (t + 1)) (nI_add t 1) dX15_began_38 ?_
    refine x_putiN h p_X15_19 (mlt hC.1 rfl) (hC.2.1 _ _ rfl) rfl rfl rfl dX15_began_39 (fun J39 eJ39 => ?_)
    exact x_vret h dX15_began_42 rfl (xpE.to rfl (by unfold k_ran; rw [ht, ix_n (by omega), nI_1]; first | (rw [if_pos h24, eJ39, e28]; done) | (rw [if_neg h24, eJ39]; done)) rfl rfl)
set_option maxHeartbeats 4000000 in
theorem k15_began_19 (l : Launch) (G : xG_T) (n : Nat) (Ty : Nat → xs_T) (F : xF_T) (hC : WC n Ty F) (I : xI_T) (L : xL_T) (q t : Nat) (c : Int32) (hq3 : 103 ≤ q) (hqn : q < n) (hqT : Ty q = some (.inl 19)) (hq1 : F q 1 = some 0) (ht : I 0 39 = nI t) (h9 : t < 900) (hc : c.toInt8.toInt32 = c) : CE l (0) yX15_began cX15_began 2 (none) G n Ty F [.ref (xb G + q), .int c] I L (none) (k_ran I c) := by
  refine Cg.intro (cls := RX15) (pad := 0) (lv := [some (.ref (xb G + q)), some (.int c)]) rfl (by decide) (Nat.le_of_ble_eq_true rfl) rfl (fun Θ h => ?_)
  refine x_aload_n h dX15_began_0 rfl ?_
  refine x_getr h (j := 0) go_X15_3_19 hqn hqT (by decide) hq1 dX15_began_1 ?_
  refine x_getiN h g_X15_19 (mlt hC.1 rfl) (hC.2.1 _ _ rfl) rfl dX15_began_4 ?_
  refine x_eqi (nI t) ht ?_
  refine x_bipush h dX15_began_7 (24) rfl ?_
  refine x_icmp_ge h 29 dX15_began_9 rfl (fun c9 => ?_) (fun c9 => ?_)
  · skip
    have h24 : ¬ nI t < 24 := Int32.not_lt.mpr c9
    refine x_aload_n h dX15_began_29 rfl ?_
    refine x_getr h (j := 0) go_X15_3_19 hqn hqT (by decide) hq1 dX15_began_30 ?_
    refine x_dup h dX15_began_33 rfl ?_
    refine x_getiN h g_X15_19 (mlt hC.1 rfl) (hC.2.1 _ _ rfl) rfl dX15_began_34 ?_
    refine x_eqi (nI t) (by first | exact ht | (rw [e28, up2_i _ _ (show (0 : Nat) ≠ 31 by decide)]; exact ht)) ?_
    refine x_iconst h dX15_began_37 (1) rfl ?_
    refine x_iaddE h (nI (t + 1)) (nI_add t 1) dX15_began_38 ?_
    refine x_putiN h p_X15_19 (mlt hC.1 rfl) (hC.2.1 _ _ rfl) rfl rfl rfl dX15_began_39 (fun J39 eJ39 => ?_)
    exact x_vret h dX15_began_42 rfl (xpE.to rfl (by unfold k_ran; rw [ht, ix_n (by omega), nI_1]; first | (rw [if_pos h24, eJ39, e28]; done) | (rw [if_neg h24, eJ39]; done)) rfl rfl)
  · skip
    have h24 : nI t < 24 := Int32.not_le.mp c9
    have ht24 : t < 24 := (nI_ltI (b := 24) (by omega) (by decide)).mp h24
    refine x_aload_n h dX15_began_12 rfl ?_
    refine x_getr h (j := 0) go_X15_3_19 hqn hqT (by decide) hq1 dX15_began_13 ?_
    refine x_getrN h (j := 31) g_X15_22 (mlt hC.1 rfl) (hC.2.1 _ _ rfl) (by decide) (hC.2.2 _ _ _ rfl) dX15_began_16 ?_
    refine x_aload_n h dX15_began_19 rfl ?_
    refine x_getr h (j := 0) go_X15_3_19 hqn hqT (by decide) hq1 dX15_began_20 ?_
    refine x_getiN h g_X15_19 (mlt hC.1 rfl) (hC.2.1 _ _ rfl) rfl dX15_began_23 ?_
    refine x_eqi (nI t) ht ?_
    refine x_iload_n h dX15_began_26 rfl ?_
    refine x_i2b h dX15_began_27 ?_
    refine x_bast h (mlt hC.1 rfl) (hC.2.1 _ _ rfl) (vp_in_nI ht24 (by decide)) (t) (nI_clamp (by omega)) dX15_began_28 (fun J28 eJ28 => ?_)
    have e28 : J28 = up2 I 31 t c := by rw [eJ28, nar_b, hc]
    refine x_aload_n h dX15_began_29 rfl ?_
    refine x_getr h (j := 0) go_X15_3_19 hqn hqT (by decide) hq1 dX15_began_30 ?_
    refine x_dup h dX15_began_33 rfl ?_
    refine x_getiN h g_X15_19 (mlt hC.1 rfl) (hC.2.1 _ _ rfl) rfl dX15_began_34 ?_
    refine x_eqi (nI t) (by first | exact ht | (rw [e28, up2_i _ _ (show (0 : Nat) ≠ 31 by decide)]; exact ht)) ?_
    refine x_iconst h dX15_began_37 (1) rfl ?_
    refine x_iaddE h (nI (t + 1)) (nI_add t 1) dX15_began_38 ?_
    refine x_putiN h p_X15_19 (mlt hC.1 rfl) (hC.2.1 _ _ rfl) rfl rfl rfl dX15_began_39 (fun J39 eJ39 => ?_)
    exact x_vret h dX15_began_42 rfl (xpE.to rfl (by unfold k_ran; rw [ht, ix_n (by omega), nI_1]; first | (rw [if_pos h24, eJ39, e28]; done) | (rw [if_neg h24, eJ39]; done)) rfl rfl)
set_option maxHeartbeats 4000000 in
theorem k15_began_20 (l : Launch) (G : xG_T) (n : Nat) (Ty : Nat → xs_T) (F : xF_T) (hC : WC n Ty F) (I : xI_T) (L : xL_T) (q t : Nat) (c : Int32) (hq3 : 103 ≤ q) (hqn : q < n) (hqT : Ty q = some (.inl 20)) (hq1 : F q 1 = some 0) (ht : I 0 39 = nI t) (h9 : t < 900) (hc : c.toInt8.toInt32 = c) : CE l (0) yX15_began cX15_began 2 (none) G n Ty F [.ref (xb G + q), .int c] I L (none) (k_ran I c) := by
  refine Cg.intro (cls := RX15) (pad := 0) (lv := [some (.ref (xb G + q)), some (.int c)]) rfl (by decide) (Nat.le_of_ble_eq_true rfl) rfl (fun Θ h => ?_)
  refine x_aload_n h dX15_began_0 rfl ?_
  refine x_getr h (j := 0) go_X15_3_20 hqn hqT (by decide) hq1 dX15_began_1 ?_
  refine x_getiN h g_X15_19 (mlt hC.1 rfl) (hC.2.1 _ _ rfl) rfl dX15_began_4 ?_
  refine x_eqi (nI t) ht ?_
  refine x_bipush h dX15_began_7 (24) rfl ?_
  refine x_icmp_ge h 29 dX15_began_9 rfl (fun c9 => ?_) (fun c9 => ?_)
  · skip
    have h24 : ¬ nI t < 24 := Int32.not_lt.mpr c9
    refine x_aload_n h dX15_began_29 rfl ?_
    refine x_getr h (j := 0) go_X15_3_20 hqn hqT (by decide) hq1 dX15_began_30 ?_
    refine x_dup h dX15_began_33 rfl ?_
    refine x_getiN h g_X15_19 (mlt hC.1 rfl) (hC.2.1 _ _ rfl) rfl dX15_began_34 ?_
    refine x_eqi (nI t) (by first | exact ht | (rw [e28, up2_i _ _ (show (0 : Nat) ≠ 31 by decide)]; exact ht)) ?_
    refine x_iconst h dX15_began_37 (1) rfl ?_
    refine x_iaddE h (nI (t + 1)) (nI_add t 1) dX15_began_38 ?_
    refine x_putiN h p_X15_19 (mlt hC.1 rfl) (hC.2.1 _ _ rfl) rfl rfl rfl dX15_began_39 (fun J39 eJ39 => ?_)
    exact x_vret h dX15_began_42 rfl (xpE.to rfl (by unfold k_ran; rw [ht, ix_n (by omega), nI_1]; first | (rw [if_pos h24, eJ39, e28]; done) | (rw [if_neg h24, eJ39]; done)) rfl rfl)
  · skip
    have h24 : nI t < 24 := Int32.not_le.mp c9
    have ht24 : t < 24 := (nI_ltI (b := 24) (by omega) (by decide)).mp h24
    refine x_aload_n h dX15_began_12 rfl ?_
    refine x_getr h (j := 0) go_X15_3_20 hqn hqT (by decide) hq1 dX15_began_13 ?_
    refine x_getrN h (j := 31) g_X15_22 (mlt hC.1 rfl) (hC.2.1 _ _ rfl) (by decide) (hC.2.2 _ _ _ rfl) dX15_began_16 ?_
    refine x_aload_n h dX15_began_19 rfl ?_
    refine x_getr h (j := 0) go_X15_3_20 hqn hqT (by decide) hq1 dX15_began_20 ?_
    refine x_getiN h g_X15_19 (mlt hC.1 rfl) (hC.2.1 _ _ rfl) rfl dX15_began_23 ?_
    refine x_eqi (nI t) ht ?_
    refine x_iload_n h dX15_began_26 rfl ?_
    refine x_i2b h dX15_began_27 ?_
    refine x_bast h (mlt hC.1 rfl) (hC.2.1 _ _ rfl) (vp_in_nI ht24 (by decide)) (t) (nI_clamp (by omega)) dX15_began_28 (fun J28 eJ28 => ?_)
    have e28 : J28 = up2 I 31 t c := by rw [eJ28, nar_b, hc]
    refine x_aload_n h dX15_began_29 rfl ?_
    refine x_getr h (j := 0) go_X15_3_20 hqn hqT (by decide) hq1 dX15_began_30 ?_
    refine x_dup h dX15_began_33 rfl ?_
    refine x_getiN h g_X15_19 (mlt hC.1 rfl) (hC.2.1 _ _ rfl) rfl dX15_began_34 ?_
    refine x_eqi (nI t) (by first | exact ht | (rw [e28, up2_i _ _ (show (0 : Nat) ≠ 31 by decide)]; exact ht)) ?_
    refine x_iconst h dX15_began_37 (1) rfl ?_
    refine x_iaddE h (nI (t + 1)) (nI_add t 1) dX15_began_38 ?_
    refine x_putiN h p_X15_19 (mlt hC.1 rfl) (hC.2.1 _ _ rfl) rfl rfl rfl dX15_began_39 (fun J39 eJ39 => ?_)
    exact x_vret h dX15_began_42 rfl (xpE.to rfl (by unfold k_ran; rw [ht, ix_n (by omega), nI_1]; first | (rw [if_pos h24, eJ39, e28]; done) | (rw [if_neg h24, eJ39]; done)) rfl rfl)
set_option maxHeartbeats 4000000 in
theorem k15_began_21 (l : Launch) (G : xG_T) (n : Nat) (Ty : Nat → xs_T) (F : xF_T) (hC : WC n Ty F) (I : xI_T) (L : xL_T) (q t : Nat) (c : Int32) (hq3 : 103 ≤ q) (hqn : q < n) (hqT : Ty q = some (.inl 21)) (hq1 : F q 1 = some 0) (ht : I 0 39 = nI t) (h9 : t < 900) (hc : c.toInt8.toInt32 = c) : CE l (0) yX15_began cX15_began 2 (none) G n Ty F [.ref (xb G + q), .int c] I L (none) (k_ran I c) := by
  refine Cg.intro (cls := RX15) (pad := 0) (lv := [some (.ref (xb G + q)), some (.int c)]) rfl (by decide) (Nat.le_of_ble_eq_true rfl) rfl (fun Θ h => ?_)
  refine x_aload_n h dX15_began_0 rfl ?_
  refine x_getr h (j := 0) go_X15_3_21 hqn hqT (by decide) hq1 dX15_began_1 ?_
  refine x_getiN h g_X15_19 (mlt hC.1 rfl) (hC.2.1 _ _ rfl) rfl dX15_began_4 ?_
  refine x_eqi (nI t) ht ?_
  refine x_bipush h dX15_began_7 (24) rfl ?_
  refine x_icmp_ge h 29 dX15_began_9 rfl (fun c9 => ?_) (fun c9 => ?_)
  · skip
    have h24 : ¬ nI t < 24 := Int32.not_lt.mpr c9
    refine x_aload_n h dX15_began_29 rfl ?_
    refine x_getr h (j := 0) go_X15_3_21 hqn hqT (by decide) hq1 dX15_began_30 ?_
    refine x_dup h dX15_began_33 rfl ?_
    refine x_getiN h g_X15_19 (mlt hC.1 rfl) (hC.2.1 _ _ rfl) rfl dX15_began_34 ?_
    refine x_eqi (nI t) (by first | exact ht | (rw [e28, up2_i _ _ (show (0 : Nat) ≠ 31 by decide)]; exact ht)) ?_
    refine x_iconst h dX15_began_37 (1) rfl ?_
    refine x_iaddE h (nI (t + 1)) (nI_add t 1) dX15_began_38 ?_
    refine x_putiN h p_X15_19 (mlt hC.1 rfl) (hC.2.1 _ _ rfl) rfl rfl rfl dX15_began_39 (fun J39 eJ39 => ?_)
    exact x_vret h dX15_began_42 rfl (xpE.to rfl (by unfold k_ran; rw [ht, ix_n (by omega), nI_1]; first | (rw [if_pos h24, eJ39, e28]; done) | (rw [if_neg h24, eJ39]; done)) rfl rfl)
  · skip
    have h24 : nI t < 24 := Int32.not_le.mp c9
    have ht24 : t < 24 := (nI_ltI (b := 24) (by omega) (by decide)).mp h24
    refine x_aload_n h dX15_began_12 rfl ?_
    refine x_getr h (j := 0) go_X15_3_21 hqn hqT (by decide) hq1 dX15_began_13 ?_
    refine x_getrN h (j := 31) g_X15_22 (mlt hC.1 rfl) (hC.2.1 _ _ rfl) (by decide) (hC.2.2 _ _ _ rfl) dX15_began_16 ?_
    refine x_aload_n h dX15_began_19 rfl ?_
    refine x_getr h (j := 0) go_X15_3_21 hqn hqT (by decide) hq1 dX15_began_20 ?_
    refine x_getiN h g_X15_19 (mlt hC.1 rfl) (hC.2.1 _ _ rfl) rfl dX15_began_23 ?_
    refine x_eqi (nI t) ht ?_
    refine x_iload_n h dX15_began_26 rfl ?_
    refine x_i2b h dX15_began_27 ?_
    refine x_bast h (mlt hC.1 rfl) (hC.2.1 _ _ rfl) (vp_in_nI ht24 (by decide)) (t) (nI_clamp (by omega)) dX15_began_28 (fun J28 eJ28 => ?_)
    have e28 : J28 = up2 I 31 t c := by rw [eJ28, nar_b, hc]
    refine x_aload_n h dX15_began_29 rfl ?_
    refine x_getr h (j := 0) go_X15_3_21 hqn hqT (by decide) hq1 dX15_began_30 ?_
    refine x_dup h dX15_began_33 rfl ?_
    refine x_getiN h g_X15_19 (mlt hC.1 rfl) (hC.2.1 _ _ rfl) rfl dX15_began_34 ?_
    refine x_eqi (nI t) (by first | exact ht | (rw [e28, up2_i _ _ (show (0 : Nat) ≠ 31 by decide)]; exact ht)) ?_
    refine x_iconst h dX15_began_37 (1) rfl ?_
    refine x_iaddE h (nI (t + 1)) (nI_add t 1) dX15_began_38 ?_
    refine x_putiN h p_X15_19 (mlt hC.1 rfl) (hC.2.1 _ _ rfl) rfl rfl rfl dX15_began_39 (fun J39 eJ39 => ?_)
    exact x_vret h dX15_began_42 rfl (xpE.to rfl (by unfold k_ran; rw [ht, ix_n (by omega), nI_1]; first | (rw [if_pos h24, eJ39, e28]; done) | (rw [if_neg h24, eJ39]; done)) rfl rfl)
set_option maxHeartbeats 4000000 in
theorem k15_began_22 (l : Launch) (G : xG_T) (n : Nat) (Ty : Nat → xs_T) (F : xF_T) (hC : WC n Ty F) (I : xI_T) (L : xL_T) (q t : Nat) (c : Int32) (hq3 : 103 ≤ q) (hqn : q < n) (hqT : Ty q = some (.inl 22)) (hq1 : F q 1 = some 0) (ht : I 0 39 = nI t) (h9 : t < 900) (hc : c.toInt8.toInt32 = c) : CE l (0) yX15_began cX15_began 2 (none) G n Ty F [.ref (xb G + q), .int c] I L (none) (k_ran I c) := by
  refine Cg.intro (cls := RX15) (pad := 0) (lv := [some (.ref (xb G + q)), some (.int c)]) rfl (by decide) (Nat.le_of_ble_eq_true rfl) rfl (fun Θ h => ?_)
  refine x_aload_n h dX15_began_0 rfl ?_
  refine x_getr h (j := 0) go_X15_3_22 hqn hqT (by decide) hq1 dX15_began_1 ?_
  refine x_getiN h g_X15_19 (mlt hC.1 rfl) (hC.2.1 _ _ rfl) rfl dX15_began_4 ?_
  refine x_eqi (nI t) ht ?_
  refine x_bipush h dX15_began_7 (24) rfl ?_
  refine x_icmp_ge h 29 dX15_began_9 rfl (fun c9 => ?_) (fun c9 => ?_)
  · skip
    have h24 : ¬ nI t < 24 := Int32.not_lt.mpr c9
    refine x_aload_n h dX15_began_29 rfl ?_
    refine x_getr h (j := 0) go_X15_3_22 hqn hqT (by decide) hq1 dX15_began_30 ?_
    refine x_dup h dX15_began_33 rfl ?_
    refine x_getiN h g_X15_19 (mlt hC.1 rfl) (hC.2.1 _ _ rfl) rfl dX15_began_34 ?_
    refine x_eqi (nI t) (by first | exact ht | (rw [e28, up2_i _ _ (show (0 : Nat) ≠ 31 by decide)]; exact ht)) ?_
    refine x_iconst h dX15_began_37 (1) rfl ?_
    refine x_iaddE h (nI (t + 1)) (nI_add t 1) dX15_began_38 ?_
    refine x_putiN h p_X15_19 (mlt hC.1 rfl) (hC.2.1 _ _ rfl) rfl rfl rfl dX15_began_39 (fun J39 eJ39 => ?_)
    exact x_vret h dX15_began_42 rfl (xpE.to rfl (by unfold k_ran; rw [ht, ix_n (by omega), nI_1]; first | (rw [if_pos h24, eJ39, e28]; done) | (rw [if_neg h24, eJ39]; done)) rfl rfl)
  · skip
    have h24 : nI t < 24 := Int32.not_le.mp c9
    have ht24 : t < 24 := (nI_ltI (b := 24) (by omega) (by decide)).mp h24
    refine x_aload_n h dX15_began_12 rfl ?_
    refine x_getr h (j := 0) go_X15_3_22 hqn hqT (by decide) hq1 dX15_began_13 ?_
    refine x_getrN h (j := 31) g_X15_22 (mlt hC.1 rfl) (hC.2.1 _ _ rfl) (by decide) (hC.2.2 _ _ _ rfl) dX15_began_16 ?_
    refine x_aload_n h dX15_began_19 rfl ?_
    refine x_getr h (j := 0) go_X15_3_22 hqn hqT (by decide) hq1 dX15_began_20 ?_
    refine x_getiN h g_X15_19 (mlt hC.1 rfl) (hC.2.1 _ _ rfl) rfl dX15_began_23 ?_
    refine x_eqi (nI t) ht ?_
    refine x_iload_n h dX15_began_26 rfl ?_
    refine x_i2b h dX15_began_27 ?_
    refine x_bast h (mlt hC.1 rfl) (hC.2.1 _ _ rfl) (vp_in_nI ht24 (by decide)) (t) (nI_clamp (by omega)) dX15_began_28 (fun J28 eJ28 => ?_)
    have e28 : J28 = up2 I 31 t c := by rw [eJ28, nar_b, hc]
    refine x_aload_n h dX15_began_29 rfl ?_
    refine x_getr h (j := 0) go_X15_3_22 hqn hqT (by decide) hq1 dX15_began_30 ?_
    refine x_dup h dX15_began_33 rfl ?_
    refine x_getiN h g_X15_19 (mlt hC.1 rfl) (hC.2.1 _ _ rfl) rfl dX15_began_34 ?_
    refine x_eqi (nI t) (by first | exact ht | (rw [e28, up2_i _ _ (show (0 : Nat) ≠ 31 by decide)]; exact ht)) ?_
    refine x_iconst h dX15_began_37 (1) rfl ?_
    refine x_iaddE h (nI (t + 1)) (nI_add t 1) dX15_began_38 ?_
    refine x_putiN h p_X15_19 (mlt hC.1 rfl) (hC.2.1 _ _ rfl) rfl rfl rfl dX15_began_39 (fun J39 eJ39 => ?_)
    exact x_vret h dX15_began_42 rfl (xpE.to rfl (by unfold k_ran; rw [ht, ix_n (by omega), nI_1]; first | (rw [if_pos h24, eJ39, e28]; done) | (rw [if_neg h24, eJ39]; done)) rfl rfl)
