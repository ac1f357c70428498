/-! WALKS OF THE REFERENCE: acts -/
theorem g_X3_348 : xfg RX3 348 3 33 := ⟨_, _, _, rfl, by decide, in_X3, q1713, rfl⟩
theorem p_X3_348 : xfp RX3 348 3 33 (tyX3 33) false := ⟨_, _, _, tyX3, rfl, by decide, in_X3, q1713, rfl, tyX3_ok, nmX3, tyX3_ok 33 (by decide), rfl⟩
theorem g_X3_73 : xfg RX3 73 3 34 := ⟨_, _, _, rfl, by decide, in_X3, q1714, rfl⟩
theorem m_X3_351 : xcv RX3 351 3 yX3_ran cX3_ran 2 (none) 1 := ⟨_, _, _, rfl, lw_V q2164 q2166 qs93 q102 q2167, rfl, by decide +kernel, by decide +kernel, by decide +kernel⟩
theorem m_X3_354 : xcv RX3 354 3 yX3_comesBy cX3_comesBy 4 (some .int) 3 := ⟨_, _, _, rfl, lw_V q2160 q2162 qs92 q102 q2163, rfl, by decide +kernel, by decide +kernel, by decide +kernel⟩
theorem m_X3_357 : xcs RX3 357 yX3_above cX3_above 1 (some .int) 1 := ⟨lw_S q2168 q2169 q102 q2170, by decide +kernel, by decide +kernel, by decide +kernel⟩
theorem m_X3_363 : xcv RX3 363 3 yX3_paysBy cX3_paysBy 5 (some .int) 3 := ⟨_, _, _, rfl, lw_V q2175 q2177 qs95 q102 q2178, rfl, by decide +kernel, by decide +kernel, by decide +kernel⟩
theorem g_X3_70 : xfg RX3 70 3 32 := ⟨_, _, _, rfl, by decide, in_X3, q1712, rfl⟩
theorem m_X3_360 : xcv RX3 360 3 yX3_owesBy cX3_owesBy 5 (some .int) 3 := ⟨_, _, _, rfl, lw_V q2171 q2173 qs94 q102 q2174, rfl, by decide +kernel, by decide +kernel, by decide +kernel⟩
theorem m_X3_366 : xcv RX3 366 3 yX3_tells cX3_tells 5 (some .int) 3 := ⟨_, _, _, rfl, lw_V q2179 q2181 qs96 q102 q2182, rfl, by decide +kernel, by decide +kernel, by decide +kernel⟩
theorem g_X3_369 : xfg RX3 369 3 31 := ⟨_, _, _, rfl, by decide, in_X3, q1711, rfl⟩
theorem p_X3_369 : xfp RX3 369 3 31 (tyX3 31) false := ⟨_, _, _, tyX3, rfl, by decide, in_X3, q1711, rfl, tyX3_ok, nmX3, tyX3_ok 31 (by decide), rfl⟩
/-! WHAT ACTS ANSWER, by kind and act; which bodies run -/
def actV (K a : Nat) (b x : Int32) : Int32 := match K with
  | 0 => (match a with | 0 => x + b | 1 => (x + b) * 2 | 2 => x ^^^ b | _ => ((x + b) * 2) - (1 ^^^ b))
  | 1 => (match a with | 0 => (x + b) + 3 | 1 => ((x + b) + 3) * 2 | 2 => x ^^^ b | _ => (((x + b) + 3) * 2) - (1 ^^^ b))
  | 2 => (match a with | 0 => x + b | 1 => -((x + b) * 2) | 2 => x ^^^ b | _ => (-((x + b) * 2)) - (1 ^^^ b))
  | 3 => (match a with | 0 => x + b | 1 => -(((x + 1) + b) * 2) | 2 => (x ^^^ b) * 3 | _ => (-(((x + 1) + b) * 2)) - ((1 ^^^ b) * 3))
  | 4 => (match a with | 0 => (x + b) + 3 | 1 => ((x + b) + 3) * 2 | 2 => (x ^^^ b) - ((2 + b) + 3) | _ => (((x + b) + 3) * 2) - ((1 ^^^ b) - ((2 + b) + 3)))
  | 5 => (match a with | 0 => x + b | 1 => -(((x + 1) + b) * 2) | 2 => (x ^^^ b) * 3 | _ => ((-(((x + 1) + b) * 2)) - ((1 ^^^ b) * 3)) ^^^ 5)
  | 6 => (match a with | 0 => (x + b) * 2 | 1 => ((x + b) * 2) * 2 | 2 => x ^^^ b | _ => (((x + b) * 2) * 2) - (1 ^^^ b))
  | _ => (match a with | 0 => (x + b) + 3 | 1 => (((x + b) + 3) * 2) + ((2 ^^^ b) - ((2 + b) + 3)) | 2 => (x ^^^ b) - ((2 + b) + 3) | _ => (((((x + b) + 3) * 2) + ((2 ^^^ b) - ((2 + b) + 3))) - ((1 ^^^ b) - ((2 + b) + 3))) - 1)
def actT (K a : Nat) : List Int32 := match K with
  | 0 => (match a with | 0 => [1] | 1 => [10, 1] | 2 => [11] | _ => [2, 10, 1, 11])
  | 1 => (match a with | 0 => [20, 1] | 1 => [10, 20, 1] | 2 => [11] | _ => [2, 10, 20, 1, 11])
  | 2 => (match a with | 0 => [1] | 1 => [30, 10, 1] | 2 => [11] | _ => [2, 30, 10, 1, 11])
  | 3 => (match a with | 0 => [1] | 1 => [41, 30, 10, 1] | 2 => [40, 11] | _ => [2, 41, 30, 10, 1, 40, 11])
  | 4 => (match a with | 0 => [20, 1] | 1 => [10, 20, 1] | 2 => [50, 11, 20, 1] | _ => [2, 10, 20, 1, 50, 11, 20, 1])
  | 5 => (match a with | 0 => [1] | 1 => [41, 30, 10, 1] | 2 => [40, 11] | _ => [60, 2, 41, 30, 10, 1, 40, 11])
  | 6 => (match a with | 0 => [70, 1] | 1 => [10, 70, 1] | 2 => [11] | _ => [2, 10, 70, 1, 11])
  | _ => (match a with | 0 => [20, 1] | 1 => [80, 10, 20, 1, 50, 11, 20, 1] | 2 => [50, 11, 20, 1] | _ => [81, 2, 80, 10, 20, 1, 50, 11, 20, 1, 50, 11, 20, 1])

def m_act (I : xI_T) (b a x : Int32) : Int32 × xI_T := if inR b 0 (I 70 31 - 1) = 0 then (0, up2 I 70 33 0) else if inR a 0 3 = 0 then (0, up2 I 70 33 0) else (actV (ix (I 88 (ix b))) (ix a) b x, m_rans (actT (ix (I 88 (ix b))) (ix a)) (up2 I 70 33 0))
def Wbd (I : xI_T) : Prop := vp_in (I 70 31) 51 ∧ ∀ k : Nat, k < 50 → vp_in (I 88 k) 8
theorem act_B {I : xI_T} {b a x : Int32} {K A : Nat} (h1 : ¬ inR b 0 (I 70 31 - 1) = 0) (h2 : ¬ inR a 0 3 = 0) (hK : K < 8) (eK : I 88 (ix b) = nI K) (hA : A < 4) (eA : a = nI A) : m_act I b a x = (actV K A b x, m_rans (actT K A) (up2 I 70 33 0)) := by
  unfold m_act
  rw [if_neg h1, if_neg h2, eK, eA, ix_n (by omega), ix_n (by omega)]
theorem body_in {b t : Int32} (ht : vp_in t 51) (h : ¬ inR b 0 (t - 1) = 0) : vp_in b 50 := by
  obtain ⟨h1, h2⟩ := inR_n.mp h
  rw [vp_in_iff] at ht ⊢
  rw [i_lt, show (0 : Int32).toInt = 0 from rfl] at h1
  rw [i_lt, i_sub (by rw [show (1 : Int32).toInt = 1 from rfl]; omega) (by rw [show (1 : Int32).toInt = 1 from rfl]; omega), show (1 : Int32).toInt = 1 from rfl] at h2
  omega
theorem ran_in {c : Int32} {t : Nat} (ht : c = nI t) (h9 : t ≤ 900) (h : c < 24) : vp_in c 24 := by
  subst ht
  exact vp_in_nI ((nI_ltI (by omega) (by decide)).mp h) (by decide)
set_option maxHeartbeats 4000000 in
theorem t_above (l : Launch) (G : xG_T) (n : Nat) (hn : 103 ≤ n) (I : xI_T) (L : xL_T) (k : Int32)  : CM l 0 yX3_above cX3_above 1 (some .int) G n [.int k] I L (some (.int (m_above k))) (I) (L) := by
  refine Cg.intro (cls := RX3) (pad := 0) (lv := [some (.int k)]) rfl (by decide) (Nat.le_of_ble_eq_true rfl) rfl (fun Θ h => ?_)
  refine x_iload_n h dX3_above_0 rfl ?_
  by_cases s1_3 : k = 3
  · skip
    refine x_tabIn h 36 dX3_above_1 (by rw [s1_3]; decide) (by rw [s1_3]; decide) (by rw [s1_3]; rfl) rfl ?_
    refine x_iconst h dX3_above_36 (2) rfl ?_
    exact x_iret h dX3_above_37 rfl (xpE.to (by subst_vars; first | with_reducible rfl | (simp only [m_above, *]; done) | (simp only [m_above, ix, *]; rfl) | (simp [m_above, ix, up2_ap, bec_k, bec_i, *]; done)) (by subst_vars; first | with_reducible rfl | (simp only [m_above, *]; done) | (simp only [m_above, ix, *]; rfl) | (simp [m_above, ix, up2_ap, bec_k, bec_i, *]; done)) rfl rfl)
  by_cases s1_4 : k = 4
  · skip
    refine x_tabIn h 38 dX3_above_1 (by rw [s1_4]; decide) (by rw [s1_4]; decide) (by rw [s1_4]; rfl) rfl ?_
    refine x_iconst h dX3_above_38 (1) rfl ?_
    exact x_iret h dX3_above_39 rfl (xpE.to (by subst_vars; first | with_reducible rfl | (simp only [m_above, *]; done) | (simp only [m_above, ix, *]; rfl) | (simp [m_above, ix, up2_ap, bec_k, bec_i, *]; done)) (by subst_vars; first | with_reducible rfl | (simp only [m_above, *]; done) | (simp only [m_above, ix, *]; rfl) | (simp [m_above, ix, up2_ap, bec_k, bec_i, *]; done)) rfl rfl)
  by_cases s1_5 : k = 5
  · skip
    refine x_tabIn h 40 dX3_above_1 (by rw [s1_5]; decide) (by rw [s1_5]; decide) (by rw [s1_5]; rfl) rfl ?_
    refine x_iconst h dX3_above_40 (3) rfl ?_
    exact x_iret h dX3_above_41 rfl (xpE.to (by subst_vars; first | with_reducible rfl | (simp only [m_above, *]; done) | (simp only [m_above, ix, *]; rfl) | (simp [m_above, ix, up2_ap, bec_k, bec_i, *]; done)) (by subst_vars; first | with_reducible rfl | (simp only [m_above, *]; done) | (simp only [m_above, ix, *]; rfl) | (simp [m_above, ix, up2_ap, bec_k, bec_i, *]; done)) rfl rfl)
  by_cases s1_7 : k = 7
  · skip
    refine x_tabIn h 42 dX3_above_1 (by rw [s1_7]; decide) (by rw [s1_7]; decide) (by rw [s1_7]; rfl) rfl ?_
    refine x_iconst h dX3_above_42 (4) rfl ?_
    exact x_iret h dX3_above_43 rfl (xpE.to (by subst_vars; first | with_reducible rfl | (simp only [m_above, *]; done) | (simp only [m_above, ix, *]; rfl) | (simp [m_above, ix, up2_ap, bec_k, bec_i, *]; done)) (by subst_vars; first | with_reducible rfl | (simp only [m_above, *]; done) | (simp only [m_above, ix, *]; rfl) | (simp [m_above, ix, up2_ap, bec_k, bec_i, *]; done)) rfl rfl)
  refine x_tabD h 44 dX3_above_1 rfl (fun j hj => match j, hj with | 0, _ => Or.inr (xsw_ne s1_3 rfl) | 1, _ => Or.inr (xsw_ne s1_4 rfl) | 2, _ => Or.inr (xsw_ne s1_5 rfl) | 3, _ => Or.inl rfl | 4, _ => Or.inr (xsw_ne s1_7 rfl) | j + 5, hj => absurd hj (by simp)) rfl ?_
  refine x_iconst h dX3_above_44 (0) rfl ?_
  exact x_iret h dX3_above_45 rfl (xpE.to (by subst_vars; first | with_reducible rfl | (simp only [m_above, *]; done) | (simp only [m_above, ix, *]; rfl) | (simp [m_above, ix, up2_ap, bec_k, bec_i, *]; done)) (by subst_vars; first | with_reducible rfl | (simp only [m_above, *]; done) | (simp only [m_above, ix, *]; rfl) | (simp [m_above, ix, up2_ap, bec_k, bec_i, *]; done)) rfl rfl)
set_option maxHeartbeats 4000000 in
theorem t_ran (l : Launch) (G : xG_T) (n : Nat) (hn : 103 ≤ n) (I : xI_T) (L : xL_T) (c : Int32) (t : Nat) (ht : I 70 33 = nI t) (h9 : t ≤ 900) : CM l 0 yX3_ran cX3_ran 2 (none) G n [.ref (xb G + 70), .int c] I L (none) (m_ran I c) (L) := by
  refine Cg.intro (cls := RX3) (pad := 0) (lv := [some (.ref (xb G + 70)), some (.int c)]) rfl (by decide) (Nat.le_of_ble_eq_true rfl) rfl (fun Θ h => ?_)
  refine x_aload_n h dX3_ran_0 rfl ?_
  refine x_geti h g_X3_348 (mlt hn rfl) rfl rfl dX3_ran_1 ?_
  refine x_bipush h dX3_ran_4 (24) rfl ?_
  refine x_icmp_ge h 19 dX3_ran_6 rfl (fun c6 => ?_) (fun c6 => ?_)
  · skip
    have n6 := Int32.not_lt.mpr c6
    refine x_aload_n h dX3_ran_19 rfl ?_
    refine x_dup h dX3_ran_20 rfl ?_
    refine x_geti h g_X3_348 (mlt hn rfl) rfl rfl dX3_ran_21 ?_
    refine x_iconst h dX3_ran_24 (1) rfl ?_
    refine x_iadd h dX3_ran_25 ?_
    refine x_puti h p_X3_348 (mlt hn rfl) rfl rfl rfl rfl dX3_ran_26 (fun J26 eJ26 => ?_)
    exact x_vret h dX3_ran_29 rfl (xpE.to rfl (by rw [eJ26]; unfold m_ran; first | (rw [if_pos n6, eJ18]; done) | (rw [if_neg n6]; done)) rfl rfl)
  · skip
    have n6 := Int32.not_le.mp c6
    refine x_aload_n h dX3_ran_9 rfl ?_
    refine x_getr h (j := 89) g_X3_73 (mlt hn rfl) rfl (by decide) rfl dX3_ran_10 ?_
    refine x_aload_n h dX3_ran_13 rfl ?_
    refine x_geti h g_X3_348 (mlt hn rfl) rfl rfl dX3_ran_14 ?_
    refine x_iload_n h dX3_ran_17 rfl ?_
    refine x_iast h (mlt hn rfl) rfl (ran_in ht h9 n6) _ rfl dX3_ran_18 (fun J18 eJ18 => ?_)
    refine x_aload_n h dX3_ran_19 rfl ?_
    refine x_dup h dX3_ran_20 rfl ?_
    refine x_geti h g_X3_348 (mlt hn rfl) rfl rfl dX3_ran_21 ?_
    refine x_iconst h dX3_ran_24 (1) rfl ?_
    refine x_iadd h dX3_ran_25 ?_
    refine x_puti h p_X3_348 (mlt hn rfl) rfl rfl rfl rfl dX3_ran_26 (fun J26 eJ26 => ?_)
    exact x_vret h dX3_ran_29 rfl (xpE.to rfl (by rw [eJ26]; unfold m_ran; first | (rw [if_pos n6, eJ18]; done) | (rw [if_neg n6]; done)) rfl rfl)
set_option maxHeartbeats 4000000 in
theorem t_cB_0 (l : Launch) (G : xG_T) (n : Nat) (hn : 103 ≤ n) (I : xI_T) (L : xL_T) (q : Nat) (b x : Int32) (t : Nat) (ht : I 70 33 = nI t) (h9 : t + 1 ≤ 900) : CM l (q + 1) yX3_comesBy cX3_comesBy 4 (some .int) G n [.ref (xb G + 70), .int b, .int 0, .int x] I L (some (.int (x + b))) (m_rans [1] I) (L) := by
  refine Cg.intro (cls := RX3) (pad := 0) (lv := [some (.ref (xb G + 70)), some (.int b), some (.int 0), some (.int x)]) rfl (by decide) (Nat.le_of_ble_eq_true rfl) rfl (fun Θ h => ?_)
  refine x_iload_n h dX3_comesBy_0 rfl ?_
  refine x_look h 36 dX3_comesBy_1 (by decide) rfl rfl ?_
  refine x_aload_n h dX3_comesBy_36 rfl ?_
  refine x_iconst h dX3_comesBy_37 (1) rfl ?_
  refine x_callVEv h (As := [.int _]) (t_ran l G n hn _ _ _ t ht (by omega)) m_X3_351 (mlt hn rfl) rfl dX3_comesBy_38 ⟨by omega, by decide⟩ ⟨by decide, by decide⟩ rfl (Nat.le_of_ble_eq_true rfl) ?_
  refine x_nmI (fun J38 eJ38 => ?_)
  refine x_iload_n h dX3_comesBy_41 rfl ?_
  refine x_iload_n h dX3_comesBy_42 rfl ?_
  refine x_iadd h dX3_comesBy_43 ?_
  exact x_iret h dX3_comesBy_44 rfl (xpE.to (by subst_vars; rfl) (by subst_vars; rfl) rfl rfl)
set_option maxHeartbeats 4000000 in
theorem t_cB_1 (l : Launch) (G : xG_T) (n : Nat) (hn : 103 ≤ n) (I : xI_T) (L : xL_T) (q : Nat) (b x : Int32) (t : Nat) (ht : I 70 33 = nI t) (h9 : t + 2 ≤ 900) : CM l (q + 2) yX3_comesBy cX3_comesBy 4 (some .int) G n [.ref (xb G + 70), .int b, .int 1, .int x] I L (some (.int ((x + b) + 3))) (m_rans [20, 1] I) (L) := by
  refine Cg.intro (cls := RX3) (pad := 0) (lv := [some (.ref (xb G + 70)), some (.int b), some (.int 1), some (.int x)]) rfl (by decide) (Nat.le_of_ble_eq_true rfl) rfl (fun Θ h => ?_)
  refine x_iload_n h dX3_comesBy_0 rfl ?_
  refine x_look h 45 dX3_comesBy_1 (by decide) rfl rfl ?_
  refine x_aload_n h dX3_comesBy_45 rfl ?_
  refine x_bipush h dX3_comesBy_46 (20) rfl ?_
  refine x_callVEv h (As := [.int _]) (t_ran l G n hn _ _ _ t ht (by omega)) m_X3_351 (mlt hn rfl) rfl dX3_comesBy_48 ⟨by omega, by decide⟩ ⟨by decide, by decide⟩ rfl (Nat.le_of_ble_eq_true rfl) ?_
  refine x_nmI (fun J48 eJ48 => ?_)
  refine x_aload_n h dX3_comesBy_51 rfl ?_
  refine x_iload_n h dX3_comesBy_52 rfl ?_
  refine x_iconst h dX3_comesBy_53 (0) rfl ?_
  refine x_iload_n h dX3_comesBy_54 rfl ?_
  refine x_callVEi h (As := [.int _, .int _, .int _]) (t_cB_0 l G n hn _ _ q b x (t + 1) (by rw [eJ48]; exact ran_n ht) (by omega)) m_X3_354 (mlt hn rfl) rfl dX3_comesBy_55 ⟨by omega, by decide⟩ ⟨by decide, by decide⟩ rfl (Nat.le_of_ble_eq_true rfl) ?_
  refine x_nmI (fun J55 eJ55 => ?_)
  refine x_iconst h dX3_comesBy_58 (3) rfl ?_
  refine x_iadd h dX3_comesBy_59 ?_
  exact x_iret h dX3_comesBy_60 rfl (xpE.to (by subst_vars; rfl) (by subst_vars; rfl) rfl rfl)
set_option maxHeartbeats 4000000 in
theorem t_cB_6 (l : Launch) (G : xG_T) (n : Nat) (hn : 103 ≤ n) (I : xI_T) (L : xL_T) (q : Nat) (b x : Int32) (t : Nat) (ht : I 70 33 = nI t) (h9 : t + 2 ≤ 900) : CM l (q + 2) yX3_comesBy cX3_comesBy 4 (some .int) G n [.ref (xb G + 70), .int b, .int 6, .int x] I L (some (.int ((x + b) * 2))) (m_rans [70, 1] I) (L) := by
  refine Cg.intro (cls := RX3) (pad := 0) (lv := [some (.ref (xb G + 70)), some (.int b), some (.int 6), some (.int x)]) rfl (by decide) (Nat.le_of_ble_eq_true rfl) rfl (fun Θ h => ?_)
  refine x_iload_n h dX3_comesBy_0 rfl ?_
  refine x_look h 61 dX3_comesBy_1 (by decide) rfl rfl ?_
  refine x_aload_n h dX3_comesBy_61 rfl ?_
  refine x_bipush h dX3_comesBy_62 (70) rfl ?_
  refine x_callVEv h (As := [.int _]) (t_ran l G n hn _ _ _ t ht (by omega)) m_X3_351 (mlt hn rfl) rfl dX3_comesBy_64 ⟨by omega, by decide⟩ ⟨by decide, by decide⟩ rfl (Nat.le_of_ble_eq_true rfl) ?_
  refine x_nmI (fun J64 eJ64 => ?_)
  refine x_aload_n h dX3_comesBy_67 rfl ?_
  refine x_iload_n h dX3_comesBy_68 rfl ?_
  refine x_iconst h dX3_comesBy_69 (0) rfl ?_
  refine x_iload_n h dX3_comesBy_70 rfl ?_
  refine x_callVEi h (As := [.int _, .int _, .int _]) (t_cB_0 l G n hn _ _ q b x (t + 1) (by rw [eJ64]; exact ran_n ht) (by omega)) m_X3_354 (mlt hn rfl) rfl dX3_comesBy_71 ⟨by omega, by decide⟩ ⟨by decide, by decide⟩ rfl (Nat.le_of_ble_eq_true rfl) ?_
  refine x_nmI (fun J71 eJ71 => ?_)
  refine x_iconst h dX3_comesBy_74 (2) rfl ?_
  refine x_imul h dX3_comesBy_75 ?_
  exact x_iret h dX3_comesBy_76 rfl (xpE.to (by subst_vars; rfl) (by subst_vars; rfl) rfl rfl)
set_option maxHeartbeats 4000000 in
theorem t_cB_2 (l : Launch) (G : xG_T) (n : Nat) (hn : 103 ≤ n) (I : xI_T) (L : xL_T) (q : Nat) (b x : Int32) (t : Nat) (ht : I 70 33 = nI t) (h9 : t + 1 ≤ 900) : CM l (q + 2) yX3_comesBy cX3_comesBy 4 (some .int) G n [.ref (xb G + 70), .int b, .int 2, .int x] I L (some (.int (x + b))) (m_rans [1] I) (L) := by
  refine Cg.intro (cls := RX3) (pad := 0) (lv := [some (.ref (xb G + 70)), some (.int b), some (.int 2), some (.int x)]) rfl (by decide) (Nat.le_of_ble_eq_true rfl) rfl (fun Θ h => ?_)
  refine x_iload_n h dX3_comesBy_0 rfl ?_
  refine x_look h 77 dX3_comesBy_1 (by decide) rfl rfl ?_
  refine x_aload_n h dX3_comesBy_77 rfl ?_
  refine x_iload_n h dX3_comesBy_78 rfl ?_
  refine x_iload_n h dX3_comesBy_79 rfl ?_
  refine x_callSEi h (As := [.int _]) (t_above l G n hn _ _ _ ) m_X3_357 dX3_comesBy_80 ⟨by omega, by decide⟩ ⟨by decide, by decide⟩ rfl (Nat.le_of_ble_eq_true rfl) ?_
  refine x_eqi (0) rfl ?_
  refine x_iload_n h dX3_comesBy_83 rfl ?_
  refine x_callVEi h (As := [.int _, .int _, .int _]) (t_cB_0 l G n hn _ _ q b x t ht (by omega)) m_X3_354 (mlt hn rfl) rfl dX3_comesBy_84 ⟨by omega, by decide⟩ ⟨by decide, by decide⟩ rfl (Nat.le_of_ble_eq_true rfl) ?_
  refine x_nmI (fun J84 eJ84 => ?_)
  exact x_iret h dX3_comesBy_87 rfl (xpE.to (by subst_vars; rfl) (by subst_vars; rfl) rfl rfl)
set_option maxHeartbeats 4000000 in
theorem t_cB_4 (l : Launch) (G : xG_T) (n : Nat) (hn : 103 ≤ n) (I : xI_T) (L : xL_T) (q : Nat) (b x : Int32) (t : Nat) (ht : I 70 33 = nI t) (h9 : t + 2 ≤ 900) : CM l (q + 3) yX3_comesBy cX3_comesBy 4 (some .int) G n [.ref (xb G + 70), .int b, .int 4, .int x] I L (some (.int ((x + b) + 3))) (m_rans [20, 1] I) (L) := by
  refine Cg.intro (cls := RX3) (pad := 0) (lv := [some (.ref (xb G + 70)), some (.int b), some (.int 4), some (.int x)]) rfl (by decide) (Nat.le_of_ble_eq_true rfl) rfl (fun Θ h => ?_)
  refine x_iload_n h dX3_comesBy_0 rfl ?_
  refine x_look h 77 dX3_comesBy_1 (by decide) rfl rfl ?_
  refine x_aload_n h dX3_comesBy_77 rfl ?_
  refine x_iload_n h dX3_comesBy_78 rfl ?_
  refine x_iload_n h dX3_comesBy_79 rfl ?_
  refine x_callSEi h (As := [.int _]) (t_above l G n hn _ _ _ ) m_X3_357 dX3_comesBy_80 ⟨by omega, by decide⟩ ⟨by decide, by decide⟩ rfl (Nat.le_of_ble_eq_true rfl) ?_
  refine x_eqi (1) rfl ?_
  refine x_iload_n h dX3_comesBy_83 rfl ?_
  refine x_callVEi h (As := [.int _, .int _, .int _]) (t_cB_1 l G n hn _ _ q b x t ht (by omega)) m_X3_354 (mlt hn rfl) rfl dX3_comesBy_84 ⟨by omega, by decide⟩ ⟨by decide, by decide⟩ rfl (Nat.le_of_ble_eq_true rfl) ?_
  refine x_nmI (fun J84 eJ84 => ?_)
  exact x_iret h dX3_comesBy_87 rfl (xpE.to (by subst_vars; rfl) (by subst_vars; rfl) rfl rfl)
set_option maxHeartbeats 4000000 in
theorem t_cB_3 (l : Launch) (G : xG_T) (n : Nat) (hn : 103 ≤ n) (I : xI_T) (L : xL_T) (q : Nat) (b x : Int32) (t : Nat) (ht : I 70 33 = nI t) (h9 : t + 1 ≤ 900) : CM l (q + 3) yX3_comesBy cX3_comesBy 4 (some .int) G n [.ref (xb G + 70), .int b, .int 3, .int x] I L (some (.int (x + b))) (m_rans [1] I) (L) := by
  refine Cg.intro (cls := RX3) (pad := 0) (lv := [some (.ref (xb G + 70)), some (.int b), some (.int 3), some (.int x)]) rfl (by decide) (Nat.le_of_ble_eq_true rfl) rfl (fun Θ h => ?_)
  refine x_iload_n h dX3_comesBy_0 rfl ?_
  refine x_look h 77 dX3_comesBy_1 (by decide) rfl rfl ?_
  refine x_aload_n h dX3_comesBy_77 rfl ?_
  refine x_iload_n h dX3_comesBy_78 rfl ?_
  refine x_iload_n h dX3_comesBy_79 rfl ?_
  refine x_callSEi h (As := [.int _]) (t_above l G n hn _ _ _ ) m_X3_357 dX3_comesBy_80 ⟨by omega, by decide⟩ ⟨by decide, by decide⟩ rfl (Nat.le_of_ble_eq_true rfl) ?_
  refine x_eqi (2) rfl ?_
  refine x_iload_n h dX3_comesBy_83 rfl ?_
  refine x_callVEi h (As := [.int _, .int _, .int _]) (t_cB_2 l G n hn _ _ q b x t ht (by omega)) m_X3_354 (mlt hn rfl) rfl dX3_comesBy_84 ⟨by omega, by decide⟩ ⟨by decide, by decide⟩ rfl (Nat.le_of_ble_eq_true rfl) ?_
  refine x_nmI (fun J84 eJ84 => ?_)
  exact x_iret h dX3_comesBy_87 rfl (xpE.to (by subst_vars; rfl) (by subst_vars; rfl) rfl rfl)
set_option maxHeartbeats 4000000 in
theorem t_cB_5 (l : Launch) (G : xG_T) (n : Nat) (hn : 103 ≤ n) (I : xI_T) (L : xL_T) (q : Nat) (b x : Int32) (t : Nat) (ht : I 70 33 = nI t) (h9 : t + 1 ≤ 900) : CM l (q + 4) yX3_comesBy cX3_comesBy 4 (some .int) G n [.ref (xb G + 70), .int b, .int 5, .int x] I L (some (.int (x + b))) (m_rans [1] I) (L) := by
  refine Cg.intro (cls := RX3) (pad := 0) (lv := [some (.ref (xb G + 70)), some (.int b), some (.int 5), some (.int x)]) rfl (by decide) (Nat.le_of_ble_eq_true rfl) rfl (fun Θ h => ?_)
  refine x_iload_n h dX3_comesBy_0 rfl ?_
  refine x_look h 77 dX3_comesBy_1 (by decide) rfl rfl ?_
  refine x_aload_n h dX3_comesBy_77 rfl ?_
  refine x_iload_n h dX3_comesBy_78 rfl ?_
  refine x_iload_n h dX3_comesBy_79 rfl ?_
  refine x_callSEi h (As := [.int _]) (t_above l G n hn _ _ _ ) m_X3_357 dX3_comesBy_80 ⟨by omega, by decide⟩ ⟨by decide, by decide⟩ rfl (Nat.le_of_ble_eq_true rfl) ?_
  refine x_eqi (3) rfl ?_
  refine x_iload_n h dX3_comesBy_83 rfl ?_
  refine x_callVEi h (As := [.int _, .int _, .int _]) (t_cB_3 l G n hn _ _ q b x t ht (by omega)) m_X3_354 (mlt hn rfl) rfl dX3_comesBy_84 ⟨by omega, by decide⟩ ⟨by decide, by decide⟩ rfl (Nat.le_of_ble_eq_true rfl) ?_
  refine x_nmI (fun J84 eJ84 => ?_)
  exact x_iret h dX3_comesBy_87 rfl (xpE.to (by subst_vars; rfl) (by subst_vars; rfl) rfl rfl)
set_option maxHeartbeats 4000000 in
theorem t_cB_7 (l : Launch) (G : xG_T) (n : Nat) (hn : 103 ≤ n) (I : xI_T) (L : xL_T) (q : Nat) (b x : Int32) (t : Nat) (ht : I 70 33 = nI t) (h9 : t + 2 ≤ 900) : CM l (q + 4) yX3_comesBy cX3_comesBy 4 (some .int) G n [.ref (xb G + 70), .int b, .int 7, .int x] I L (some (.int ((x + b) + 3))) (m_rans [20, 1] I) (L) := by
  refine Cg.intro (cls := RX3) (pad := 0) (lv := [some (.ref (xb G + 70)), some (.int b), some (.int 7), some (.int x)]) rfl (by decide) (Nat.le_of_ble_eq_true rfl) rfl (fun Θ h => ?_)
  refine x_iload_n h dX3_comesBy_0 rfl ?_
  refine x_look h 77 dX3_comesBy_1 (by decide) rfl rfl ?_
  refine x_aload_n h dX3_comesBy_77 rfl ?_
  refine x_iload_n h dX3_comesBy_78 rfl ?_
  refine x_iload_n h dX3_comesBy_79 rfl ?_
  refine x_callSEi h (As := [.int _]) (t_above l G n hn _ _ _ ) m_X3_357 dX3_comesBy_80 ⟨by omega, by decide⟩ ⟨by decide, by decide⟩ rfl (Nat.le_of_ble_eq_true rfl) ?_
  refine x_eqi (4) rfl ?_
  refine x_iload_n h dX3_comesBy_83 rfl ?_
  refine x_callVEi h (As := [.int _, .int _, .int _]) (t_cB_4 l G n hn _ _ q b x t ht (by omega)) m_X3_354 (mlt hn rfl) rfl dX3_comesBy_84 ⟨by omega, by decide⟩ ⟨by decide, by decide⟩ rfl (Nat.le_of_ble_eq_true rfl) ?_
  refine x_nmI (fun J84 eJ84 => ?_)
  exact x_iret h dX3_comesBy_87 rfl (xpE.to (by subst_vars; rfl) (by subst_vars; rfl) rfl rfl)
set_option maxHeartbeats 4000000 in
theorem t_pB_0_0 (l : Launch) (G : xG_T) (n : Nat) (hn : 103 ≤ n) (I : xI_T) (L : xL_T) (q : Nat) (b x : Int32) (t : Nat) (ht : I 70 33 = nI t) (hk : I 88 (ix b) = 0) (hb : vp_in b 50) (h9 : t + 1 ≤ 900) : CM l (q + 1) yX3_paysBy cX3_paysBy 5 (some .int) G n [.ref (xb G + 70), .int b, .int 0, .int x] I L (some (.int (x ^^^ b))) (m_rans [11] I) (L) := by
  refine Cg.intro (cls := RX3) (pad := 1) (lv := [some (.ref (xb G + 70)), some (.int b), some (.int 0), some (.int x), none]) rfl (by decide) (Nat.le_of_ble_eq_true rfl) rfl (fun Θ h => ?_)
  refine x_iload_n h dX3_paysBy_0 rfl ?_
  refine x_tabIn h 36 dX3_paysBy_1 (by decide) (by decide) rfl rfl ?_
  refine x_aload_n h dX3_paysBy_36 rfl ?_
  refine x_bipush h dX3_paysBy_37 (11) rfl ?_
  refine x_callVEv h (As := [.int _]) (t_ran l G n hn _ _ _ t ht (by omega)) m_X3_351 (mlt hn rfl) rfl dX3_paysBy_39 ⟨by omega, by decide⟩ ⟨by decide, by decide⟩ rfl (Nat.le_of_ble_eq_true rfl) ?_
  refine x_nmI (fun J39 eJ39 => ?_)
  refine x_iload_n h dX3_paysBy_42 rfl ?_
  refine x_iload_n h dX3_paysBy_43 rfl ?_
  refine x_ixor h dX3_paysBy_44 ?_
  exact x_iret h dX3_paysBy_45 rfl (xpE.to (by subst_vars; rfl) (by subst_vars; rfl) rfl rfl)
set_option maxHeartbeats 4000000 in
theorem t_pB_1_0 (l : Launch) (G : xG_T) (n : Nat) (hn : 103 ≤ n) (I : xI_T) (L : xL_T) (q : Nat) (b x : Int32) (t : Nat) (ht : I 70 33 = nI t) (hk : I 88 (ix b) = 1) (hb : vp_in b 50) (h9 : t + 1 ≤ 900) : CM l (q + 1) yX3_paysBy cX3_paysBy 5 (some .int) G n [.ref (xb G + 70), .int b, .int 0, .int x] I L (some (.int (x ^^^ b))) (m_rans [11] I) (L) := by
  refine Cg.intro (cls := RX3) (pad := 1) (lv := [some (.ref (xb G + 70)), some (.int b), some (.int 0), some (.int x), none]) rfl (by decide) (Nat.le_of_ble_eq_true rfl) rfl (fun Θ h => ?_)
  refine x_iload_n h dX3_paysBy_0 rfl ?_
  refine x_tabIn h 36 dX3_paysBy_1 (by decide) (by decide) rfl rfl ?_
  refine x_aload_n h dX3_paysBy_36 rfl ?_
  refine x_bipush h dX3_paysBy_37 (11) rfl ?_
  refine x_callVEv h (As := [.int _]) (t_ran l G n hn _ _ _ t ht (by omega)) m_X3_351 (mlt hn rfl) rfl dX3_paysBy_39 ⟨by omega, by decide⟩ ⟨by decide, by decide⟩ rfl (Nat.le_of_ble_eq_true rfl) ?_
  refine x_nmI (fun J39 eJ39 => ?_)
  refine x_iload_n h dX3_paysBy_42 rfl ?_
  refine x_iload_n h dX3_paysBy_43 rfl ?_
  refine x_ixor h dX3_paysBy_44 ?_
  exact x_iret h dX3_paysBy_45 rfl (xpE.to (by subst_vars; rfl) (by subst_vars; rfl) rfl rfl)
set_option maxHeartbeats 4000000 in
theorem t_pB_1_1 (l : Launch) (G : xG_T) (n : Nat) (hn : 103 ≤ n) (I : xI_T) (L : xL_T) (q : Nat) (b x : Int32) (t : Nat) (ht : I 70 33 = nI t) (hk : I 88 (ix b) = 1) (hb : vp_in b 50) (h9 : t + 1 ≤ 900) : CM l (q + 2) yX3_paysBy cX3_paysBy 5 (some .int) G n [.ref (xb G + 70), .int b, .int 1, .int x] I L (some (.int (x ^^^ b))) (m_rans [11] I) (L) := by
  refine Cg.intro (cls := RX3) (pad := 1) (lv := [some (.ref (xb G + 70)), some (.int b), some (.int 1), some (.int x), none]) rfl (by decide) (Nat.le_of_ble_eq_true rfl) rfl (fun Θ h => ?_)
  refine x_iload_n h dX3_paysBy_0 rfl ?_
  refine x_tabIn h 93 dX3_paysBy_1 (by decide) (by decide) rfl rfl ?_
  refine x_aload_n h dX3_paysBy_93 rfl ?_
  refine x_iload_n h dX3_paysBy_94 rfl ?_
  refine x_iload_n h dX3_paysBy_95 rfl ?_
  refine x_callSEi h (As := [.int _]) (t_above l G n hn _ _ _ ) m_X3_357 dX3_paysBy_96 ⟨by omega, by decide⟩ ⟨by decide, by decide⟩ rfl (Nat.le_of_ble_eq_true rfl) ?_
  refine x_eqi (0) rfl ?_
  refine x_iload_n h dX3_paysBy_99 rfl ?_
  refine x_callVEi h (As := [.int _, .int _, .int _]) (t_pB_1_0 l G n hn _ _ q b x t ht hk hb (by omega)) m_X3_363 (mlt hn rfl) rfl dX3_paysBy_100 ⟨by omega, by decide⟩ ⟨by decide, by decide⟩ rfl (Nat.le_of_ble_eq_true rfl) ?_
  refine x_nmI (fun J100 eJ100 => ?_)
  exact x_iret h dX3_paysBy_103 rfl (xpE.to (by subst_vars; rfl) (by subst_vars; rfl) rfl rfl)
set_option maxHeartbeats 4000000 in
theorem t_pB_2_0 (l : Launch) (G : xG_T) (n : Nat) (hn : 103 ≤ n) (I : xI_T) (L : xL_T) (q : Nat) (b x : Int32) (t : Nat) (ht : I 70 33 = nI t) (hk : I 88 (ix b) = 2) (hb : vp_in b 50) (h9 : t + 1 ≤ 900) : CM l (q + 1) yX3_paysBy cX3_paysBy 5 (some .int) G n [.ref (xb G + 70), .int b, .int 0, .int x] I L (some (.int (x ^^^ b))) (m_rans [11] I) (L) := by
  refine Cg.intro (cls := RX3) (pad := 1) (lv := [some (.ref (xb G + 70)), some (.int b), some (.int 0), some (.int x), none]) rfl (by decide) (Nat.le_of_ble_eq_true rfl) rfl (fun Θ h => ?_)
  refine x_iload_n h dX3_paysBy_0 rfl ?_
  refine x_tabIn h 36 dX3_paysBy_1 (by decide) (by decide) rfl rfl ?_
  refine x_aload_n h dX3_paysBy_36 rfl ?_
  refine x_bipush h dX3_paysBy_37 (11) rfl ?_
  refine x_callVEv h (As := [.int _]) (t_ran l G n hn _ _ _ t ht (by omega)) m_X3_351 (mlt hn rfl) rfl dX3_paysBy_39 ⟨by omega, by decide⟩ ⟨by decide, by decide⟩ rfl (Nat.le_of_ble_eq_true rfl) ?_
  refine x_nmI (fun J39 eJ39 => ?_)
  refine x_iload_n h dX3_paysBy_42 rfl ?_
  refine x_iload_n h dX3_paysBy_43 rfl ?_
  refine x_ixor h dX3_paysBy_44 ?_
  exact x_iret h dX3_paysBy_45 rfl (xpE.to (by subst_vars; rfl) (by subst_vars; rfl) rfl rfl)
set_option maxHeartbeats 4000000 in
theorem t_pB_2_2 (l : Launch) (G : xG_T) (n : Nat) (hn : 103 ≤ n) (I : xI_T) (L : xL_T) (q : Nat) (b x : Int32) (t : Nat) (ht : I 70 33 = nI t) (hk : I 88 (ix b) = 2) (hb : vp_in b 50) (h9 : t + 1 ≤ 900) : CM l (q + 2) yX3_paysBy cX3_paysBy 5 (some .int) G n [.ref (xb G + 70), .int b, .int 2, .int x] I L (some (.int (x ^^^ b))) (m_rans [11] I) (L) := by
  refine Cg.intro (cls := RX3) (pad := 1) (lv := [some (.ref (xb G + 70)), some (.int b), some (.int 2), some (.int x), none]) rfl (by decide) (Nat.le_of_ble_eq_true rfl) rfl (fun Θ h => ?_)
  refine x_iload_n h dX3_paysBy_0 rfl ?_
  refine x_tabIn h 93 dX3_paysBy_1 (by decide) (by decide) rfl rfl ?_
  refine x_aload_n h dX3_paysBy_93 rfl ?_
  refine x_iload_n h dX3_paysBy_94 rfl ?_
  refine x_iload_n h dX3_paysBy_95 rfl ?_
  refine x_callSEi h (As := [.int _]) (t_above l G n hn _ _ _ ) m_X3_357 dX3_paysBy_96 ⟨by omega, by decide⟩ ⟨by decide, by decide⟩ rfl (Nat.le_of_ble_eq_true rfl) ?_
  refine x_eqi (0) rfl ?_
  refine x_iload_n h dX3_paysBy_99 rfl ?_
  refine x_callVEi h (As := [.int _, .int _, .int _]) (t_pB_2_0 l G n hn _ _ q b x t ht hk hb (by omega)) m_X3_363 (mlt hn rfl) rfl dX3_paysBy_100 ⟨by omega, by decide⟩ ⟨by decide, by decide⟩ rfl (Nat.le_of_ble_eq_true rfl) ?_
  refine x_nmI (fun J100 eJ100 => ?_)
  exact x_iret h dX3_paysBy_103 rfl (xpE.to (by subst_vars; rfl) (by subst_vars; rfl) rfl rfl)
set_option maxHeartbeats 4000000 in
theorem t_pB_3_0 (l : Launch) (G : xG_T) (n : Nat) (hn : 103 ≤ n) (I : xI_T) (L : xL_T) (q : Nat) (b x : Int32) (t : Nat) (ht : I 70 33 = nI t) (hk : I 88 (ix b) = 3) (hb : vp_in b 50) (h9 : t + 1 ≤ 900) : CM l (q + 1) yX3_paysBy cX3_paysBy 5 (some .int) G n [.ref (xb G + 70), .int b, .int 0, .int x] I L (some (.int (x ^^^ b))) (m_rans [11] I) (L) := by
  refine Cg.intro (cls := RX3) (pad := 1) (lv := [some (.ref (xb G + 70)), some (.int b), some (.int 0), some (.int x), none]) rfl (by decide) (Nat.le_of_ble_eq_true rfl) rfl (fun Θ h => ?_)
  refine x_iload_n h dX3_paysBy_0 rfl ?_
  refine x_tabIn h 36 dX3_paysBy_1 (by decide) (by decide) rfl rfl ?_
  refine x_aload_n h dX3_paysBy_36 rfl ?_
  refine x_bipush h dX3_paysBy_37 (11) rfl ?_
  refine x_callVEv h (As := [.int _]) (t_ran l G n hn _ _ _ t ht (by omega)) m_X3_351 (mlt hn rfl) rfl dX3_paysBy_39 ⟨by omega, by decide⟩ ⟨by decide, by decide⟩ rfl (Nat.le_of_ble_eq_true rfl) ?_
  refine x_nmI (fun J39 eJ39 => ?_)
  refine x_iload_n h dX3_paysBy_42 rfl ?_
  refine x_iload_n h dX3_paysBy_43 rfl ?_
  refine x_ixor h dX3_paysBy_44 ?_
  exact x_iret h dX3_paysBy_45 rfl (xpE.to (by subst_vars; rfl) (by subst_vars; rfl) rfl rfl)
set_option maxHeartbeats 4000000 in
theorem t_pB_3_2 (l : Launch) (G : xG_T) (n : Nat) (hn : 103 ≤ n) (I : xI_T) (L : xL_T) (q : Nat) (b x : Int32) (t : Nat) (ht : I 70 33 = nI t) (hk : I 88 (ix b) = 3) (hb : vp_in b 50) (h9 : t + 1 ≤ 900) : CM l (q + 2) yX3_paysBy cX3_paysBy 5 (some .int) G n [.ref (xb G + 70), .int b, .int 2, .int x] I L (some (.int (x ^^^ b))) (m_rans [11] I) (L) := by
  refine Cg.intro (cls := RX3) (pad := 1) (lv := [some (.ref (xb G + 70)), some (.int b), some (.int 2), some (.int x), none]) rfl (by decide) (Nat.le_of_ble_eq_true rfl) rfl (fun Θ h => ?_)
  refine x_iload_n h dX3_paysBy_0 rfl ?_
  refine x_tabIn h 93 dX3_paysBy_1 (by decide) (by decide) rfl rfl ?_
  refine x_aload_n h dX3_paysBy_93 rfl ?_
  refine x_iload_n h dX3_paysBy_94 rfl ?_
  refine x_iload_n h dX3_paysBy_95 rfl ?_
  refine x_callSEi h (As := [.int _]) (t_above l G n hn _ _ _ ) m_X3_357 dX3_paysBy_96 ⟨by omega, by decide⟩ ⟨by decide, by decide⟩ rfl (Nat.le_of_ble_eq_true rfl) ?_
  refine x_eqi (0) rfl ?_
  refine x_iload_n h dX3_paysBy_99 rfl ?_
  refine x_callVEi h (As := [.int _, .int _, .int _]) (t_pB_3_0 l G n hn _ _ q b x t ht hk hb (by omega)) m_X3_363 (mlt hn rfl) rfl dX3_paysBy_100 ⟨by omega, by decide⟩ ⟨by decide, by decide⟩ rfl (Nat.le_of_ble_eq_true rfl) ?_
  refine x_nmI (fun J100 eJ100 => ?_)
  exact x_iret h dX3_paysBy_103 rfl (xpE.to (by subst_vars; rfl) (by subst_vars; rfl) rfl rfl)
set_option maxHeartbeats 4000000 in
theorem t_pB_3_3 (l : Launch) (G : xG_T) (n : Nat) (hn : 103 ≤ n) (I : xI_T) (L : xL_T) (q : Nat) (b x : Int32) (t : Nat) (ht : I 70 33 = nI t) (hk : I 88 (ix b) = 3) (hb : vp_in b 50) (h9 : t + 2 ≤ 900) : CM l (q + 3) yX3_paysBy cX3_paysBy 5 (some .int) G n [.ref (xb G + 70), .int b, .int 3, .int x] I L (some (.int ((x ^^^ b) * 3))) (m_rans [40, 11] I) (L) := by
  refine Cg.intro (cls := RX3) (pad := 1) (lv := [some (.ref (xb G + 70)), some (.int b), some (.int 3), some (.int x), none]) rfl (by decide) (Nat.le_of_ble_eq_true rfl) rfl (fun Θ h => ?_)
  refine x_iload_n h dX3_paysBy_0 rfl ?_
  refine x_tabIn h 46 dX3_paysBy_1 (by decide) (by decide) rfl rfl ?_
  refine x_aload_n h dX3_paysBy_46 rfl ?_
  refine x_bipush h dX3_paysBy_47 (40) rfl ?_
  refine x_callVEv h (As := [.int _]) (t_ran l G n hn _ _ _ t ht (by omega)) m_X3_351 (mlt hn rfl) rfl dX3_paysBy_49 ⟨by omega, by decide⟩ ⟨by decide, by decide⟩ rfl (Nat.le_of_ble_eq_true rfl) ?_
  refine x_nmI (fun J49 eJ49 => ?_)
  refine x_aload_n h dX3_paysBy_52 rfl ?_
  refine x_iload_n h dX3_paysBy_53 rfl ?_
  refine x_iconst h dX3_paysBy_54 (2) rfl ?_
  refine x_iload_n h dX3_paysBy_55 rfl ?_
  refine x_callVEi h (As := [.int _, .int _, .int _]) (t_pB_3_2 l G n hn _ _ q b x (t + 1) (by rw [eJ49]; exact ran_n ht) (by rw [eJ49]; exact (ran_o (by decide) (by omega)).trans hk) hb (by omega)) m_X3_363 (mlt hn rfl) rfl dX3_paysBy_56 ⟨by omega, by decide⟩ ⟨by decide, by decide⟩ rfl (Nat.le_of_ble_eq_true rfl) ?_
  refine x_nmI (fun J56 eJ56 => ?_)
  refine x_iconst h dX3_paysBy_59 (3) rfl ?_
  refine x_imul h dX3_paysBy_60 ?_
  exact x_iret h dX3_paysBy_61 rfl (xpE.to (by subst_vars; rfl) (by subst_vars; rfl) rfl rfl)
set_option maxHeartbeats 4000000 in
theorem t_pB_4_0 (l : Launch) (G : xG_T) (n : Nat) (hn : 103 ≤ n) (I : xI_T) (L : xL_T) (q : Nat) (b x : Int32) (t : Nat) (ht : I 70 33 = nI t) (hk : I 88 (ix b) = 4) (hb : vp_in b 50) (h9 : t + 1 ≤ 900) : CM l (q + 1) yX3_paysBy cX3_paysBy 5 (some .int) G n [.ref (xb G + 70), .int b, .int 0, .int x] I L (some (.int (x ^^^ b))) (m_rans [11] I) (L) := by
  refine Cg.intro (cls := RX3) (pad := 1) (lv := [some (.ref (xb G + 70)), some (.int b), some (.int 0), some (.int x), none]) rfl (by decide) (Nat.le_of_ble_eq_true rfl) rfl (fun Θ h => ?_)
  refine x_iload_n h dX3_paysBy_0 rfl ?_
  refine x_tabIn h 36 dX3_paysBy_1 (by decide) (by decide) rfl rfl ?_
  refine x_aload_n h dX3_paysBy_36 rfl ?_
  refine x_bipush h dX3_paysBy_37 (11) rfl ?_
  refine x_callVEv h (As := [.int _]) (t_ran l G n hn _ _ _ t ht (by omega)) m_X3_351 (mlt hn rfl) rfl dX3_paysBy_39 ⟨by omega, by decide⟩ ⟨by decide, by decide⟩ rfl (Nat.le_of_ble_eq_true rfl) ?_
  refine x_nmI (fun J39 eJ39 => ?_)
  refine x_iload_n h dX3_paysBy_42 rfl ?_
  refine x_iload_n h dX3_paysBy_43 rfl ?_
  refine x_ixor h dX3_paysBy_44 ?_
  exact x_iret h dX3_paysBy_45 rfl (xpE.to (by subst_vars; rfl) (by subst_vars; rfl) rfl rfl)
set_option maxHeartbeats 4000000 in
theorem t_pB_4_1 (l : Launch) (G : xG_T) (n : Nat) (hn : 103 ≤ n) (I : xI_T) (L : xL_T) (q : Nat) (b x : Int32) (t : Nat) (ht : I 70 33 = nI t) (hk : I 88 (ix b) = 4) (hb : vp_in b 50) (h9 : t + 1 ≤ 900) : CM l (q + 2) yX3_paysBy cX3_paysBy 5 (some .int) G n [.ref (xb G + 70), .int b, .int 1, .int x] I L (some (.int (x ^^^ b))) (m_rans [11] I) (L) := by
  refine Cg.intro (cls := RX3) (pad := 1) (lv := [some (.ref (xb G + 70)), some (.int b), some (.int 1), some (.int x), none]) rfl (by decide) (Nat.le_of_ble_eq_true rfl) rfl (fun Θ h => ?_)
  refine x_iload_n h dX3_paysBy_0 rfl ?_
  refine x_tabIn h 93 dX3_paysBy_1 (by decide) (by decide) rfl rfl ?_
  refine x_aload_n h dX3_paysBy_93 rfl ?_
  refine x_iload_n h dX3_paysBy_94 rfl ?_
  refine x_iload_n h dX3_paysBy_95 rfl ?_
  refine x_callSEi h (As := [.int _]) (t_above l G n hn _ _ _ ) m_X3_357 dX3_paysBy_96 ⟨by omega, by decide⟩ ⟨by decide, by decide⟩ rfl (Nat.le_of_ble_eq_true rfl) ?_
  refine x_eqi (0) rfl ?_
  refine x_iload_n h dX3_paysBy_99 rfl ?_
  refine x_callVEi h (As := [.int _, .int _, .int _]) (t_pB_4_0 l G n hn _ _ q b x t ht hk hb (by omega)) m_X3_363 (mlt hn rfl) rfl dX3_paysBy_100 ⟨by omega, by decide⟩ ⟨by decide, by decide⟩ rfl (Nat.le_of_ble_eq_true rfl) ?_
  refine x_nmI (fun J100 eJ100 => ?_)
  exact x_iret h dX3_paysBy_103 rfl (xpE.to (by subst_vars; rfl) (by subst_vars; rfl) rfl rfl)
set_option maxHeartbeats 4000000 in
theorem t_pB_4_4 (l : Launch) (G : xG_T) (n : Nat) (hn : 103 ≤ n) (I : xI_T) (L : xL_T) (q : Nat) (b x : Int32) (t : Nat) (ht : I 70 33 = nI t) (hk : I 88 (ix b) = 4) (hb : vp_in b 50) (h9 : t + 4 ≤ 900) : CM l (q + 4) yX3_paysBy cX3_paysBy 5 (some .int) G n [.ref (xb G + 70), .int b, .int 4, .int x] I L (some (.int ((x ^^^ b) - ((2 + b) + 3)))) (m_rans [50, 11, 20, 1] I) (L) := by
  refine Cg.intro (cls := RX3) (pad := 1) (lv := [some (.ref (xb G + 70)), some (.int b), some (.int 4), some (.int x), none]) rfl (by decide) (Nat.le_of_ble_eq_true rfl) rfl (fun Θ h => ?_)
  refine x_iload_n h dX3_paysBy_0 rfl ?_
  refine x_tabIn h 62 dX3_paysBy_1 (by decide) (by decide) rfl rfl ?_
  refine x_aload_n h dX3_paysBy_62 rfl ?_
  refine x_bipush h dX3_paysBy_63 (50) rfl ?_
  refine x_callVEv h (As := [.int _]) (t_ran l G n hn _ _ _ t ht (by omega)) m_X3_351 (mlt hn rfl) rfl dX3_paysBy_65 ⟨by omega, by decide⟩ ⟨by decide, by decide⟩ rfl (Nat.le_of_ble_eq_true rfl) ?_
  refine x_nmI (fun J65 eJ65 => ?_)
  refine x_aload_n h dX3_paysBy_68 rfl ?_
  refine x_iload_n h dX3_paysBy_69 rfl ?_
  refine x_iconst h dX3_paysBy_70 (1) rfl ?_
  refine x_iload_n h dX3_paysBy_71 rfl ?_
  refine x_callVEi h (As := [.int _, .int _, .int _]) (t_pB_4_1 l G n hn _ _ q b x (t + 1) (by rw [eJ65]; exact ran_n ht) (by rw [eJ65]; exact (ran_o (by decide) (by omega)).trans hk) hb (by omega)) m_X3_363 (mlt hn rfl) rfl dX3_paysBy_72 ⟨by omega, by decide⟩ ⟨by decide, by decide⟩ rfl (Nat.le_of_ble_eq_true rfl) ?_
  refine x_nmI (fun J72 eJ72 => ?_)
  refine x_nmi (fun v75 ev75 => ?_)
  refine x_istore h dX3_paysBy_75 (by decide) [some (.ref (xb G + 70)), some (.int b), some (.int 4), some (.int x), some (.int v75)] rfl ?_
  refine x_iload h dX3_paysBy_77 rfl ?_
  refine x_aload_n h dX3_paysBy_79 rfl ?_
  refine x_iload_n h dX3_paysBy_80 rfl ?_
  refine x_aload_n h dX3_paysBy_81 rfl ?_
  refine x_getr h (j := 88) g_X3_70 (mlt hn rfl) rfl (by decide) rfl dX3_paysBy_82 ?_
  refine x_iload_n h dX3_paysBy_85 rfl ?_
  refine x_iald h (mlt hn rfl) rfl hb _ rfl dX3_paysBy_86 ?_
  refine x_eqi (4) (by rw [eJ72, rans_o (by decide) (by omega), eJ65]; exact (ran_o (by decide) (by omega)).trans hk) ?_
  refine x_iconst h dX3_paysBy_87 (2) rfl ?_
  refine x_callVEi h (As := [.int _, .int _, .int _]) (t_cB_4 l G n hn _ _ q b 2 (t + 1 + 1) (by rw [eJ72]; exact rans_n [11] (by rw [eJ65]; exact ran_n ht)) (by omega)) m_X3_354 (mlt hn rfl) rfl dX3_paysBy_88 ⟨by omega, by decide⟩ ⟨by decide, by decide⟩ rfl (Nat.le_of_ble_eq_true rfl) ?_
  refine x_nmI (fun J88 eJ88 => ?_)
  refine x_isub h dX3_paysBy_91 ?_
  exact x_iret h dX3_paysBy_92 rfl (xpE.to (by subst_vars; rfl) (by subst_vars; rfl) rfl rfl)
set_option maxHeartbeats 4000000 in
theorem t_pB_5_0 (l : Launch) (G : xG_T) (n : Nat) (hn : 103 ≤ n) (I : xI_T) (L : xL_T) (q : Nat) (b x : Int32) (t : Nat) (ht : I 70 33 = nI t) (hk : I 88 (ix b) = 5) (hb : vp_in b 50) (h9 : t + 1 ≤ 900) : CM l (q + 1) yX3_paysBy cX3_paysBy 5 (some .int) G n [.ref (xb G + 70), .int b, .int 0, .int x] I L (some (.int (x ^^^ b))) (m_rans [11] I) (L) := by
  refine Cg.intro (cls := RX3) (pad := 1) (lv := [some (.ref (xb G + 70)), some (.int b), some (.int 0), some (.int x), none]) rfl (by decide) (Nat.le_of_ble_eq_true rfl) rfl (fun Θ h => ?_)
  refine x_iload_n h dX3_paysBy_0 rfl ?_
  refine x_tabIn h 36 dX3_paysBy_1 (by decide) (by decide) rfl rfl ?_
  refine x_aload_n h dX3_paysBy_36 rfl ?_
  refine x_bipush h dX3_paysBy_37 (11) rfl ?_
  refine x_callVEv h (As := [.int _]) (t_ran l G n hn _ _ _ t ht (by omega)) m_X3_351 (mlt hn rfl) rfl dX3_paysBy_39 ⟨by omega, by decide⟩ ⟨by decide, by decide⟩ rfl (Nat.le_of_ble_eq_true rfl) ?_
  refine x_nmI (fun J39 eJ39 => ?_)
  refine x_iload_n h dX3_paysBy_42 rfl ?_
  refine x_iload_n h dX3_paysBy_43 rfl ?_
  refine x_ixor h dX3_paysBy_44 ?_
  exact x_iret h dX3_paysBy_45 rfl (xpE.to (by subst_vars; rfl) (by subst_vars; rfl) rfl rfl)
set_option maxHeartbeats 4000000 in
theorem t_pB_5_2 (l : Launch) (G : xG_T) (n : Nat) (hn : 103 ≤ n) (I : xI_T) (L : xL_T) (q : Nat) (b x : Int32) (t : Nat) (ht : I 70 33 = nI t) (hk : I 88 (ix b) = 5) (hb : vp_in b 50) (h9 : t + 1 ≤ 900) : CM l (q + 2) yX3_paysBy cX3_paysBy 5 (some .int) G n [.ref (xb G + 70), .int b, .int 2, .int x] I L (some (.int (x ^^^ b))) (m_rans [11] I) (L) := by
  refine Cg.intro (cls := RX3) (pad := 1) (lv := [some (.ref (xb G + 70)), some (.int b), some (.int 2), some (.int x), none]) rfl (by decide) (Nat.le_of_ble_eq_true rfl) rfl (fun Θ h => ?_)
  refine x_iload_n h dX3_paysBy_0 rfl ?_
  refine x_tabIn h 93 dX3_paysBy_1 (by decide) (by decide) rfl rfl ?_
  refine x_aload_n h dX3_paysBy_93 rfl ?_
  refine x_iload_n h dX3_paysBy_94 rfl ?_
  refine x_iload_n h dX3_paysBy_95 rfl ?_
  refine x_callSEi h (As := [.int _]) (t_above l G n hn _ _ _ ) m_X3_357 dX3_paysBy_96 ⟨by omega, by decide⟩ ⟨by decide, by decide⟩ rfl (Nat.le_of_ble_eq_true rfl) ?_
  refine x_eqi (0) rfl ?_
  refine x_iload_n h dX3_paysBy_99 rfl ?_
  refine x_callVEi h (As := [.int _, .int _, .int _]) (t_pB_5_0 l G n hn _ _ q b x t ht hk hb (by omega)) m_X3_363 (mlt hn rfl) rfl dX3_paysBy_100 ⟨by omega, by decide⟩ ⟨by decide, by decide⟩ rfl (Nat.le_of_ble_eq_true rfl) ?_
  refine x_nmI (fun J100 eJ100 => ?_)
  exact x_iret h dX3_paysBy_103 rfl (xpE.to (by subst_vars; rfl) (by subst_vars; rfl) rfl rfl)
set_option maxHeartbeats 4000000 in
theorem t_pB_5_3 (l : Launch) (G : xG_T) (n : Nat) (hn : 103 ≤ n) (I : xI_T) (L : xL_T) (q : Nat) (b x : Int32) (t : Nat) (ht : I 70 33 = nI t) (hk : I 88 (ix b) = 5) (hb : vp_in b 50) (h9 : t + 2 ≤ 900) : CM l (q + 3) yX3_paysBy cX3_paysBy 5 (some .int) G n [.ref (xb G + 70), .int b, .int 3, .int x] I L (some (.int ((x ^^^ b) * 3))) (m_rans [40, 11] I) (L) := by
  refine Cg.intro (cls := RX3) (pad := 1) (lv := [some (.ref (xb G + 70)), some (.int b), some (.int 3), some (.int x), none]) rfl (by decide) (Nat.le_of_ble_eq_true rfl) rfl (fun Θ h => ?_)
  refine x_iload_n h dX3_paysBy_0 rfl ?_
  refine x_tabIn h 46 dX3_paysBy_1 (by decide) (by decide) rfl rfl ?_
  refine x_aload_n h dX3_paysBy_46 rfl ?_
  refine x_bipush h dX3_paysBy_47 (40) rfl ?_
  refine x_callVEv h (As := [.int _]) (t_ran l G n hn _ _ _ t ht (by omega)) m_X3_351 (mlt hn rfl) rfl dX3_paysBy_49 ⟨by omega, by decide⟩ ⟨by decide, by decide⟩ rfl (Nat.le_of_ble_eq_true rfl) ?_
  refine x_nmI (fun J49 eJ49 => ?_)
  refine x_aload_n h dX3_paysBy_52 rfl ?_
  refine x_iload_n h dX3_paysBy_53 rfl ?_
  refine x_iconst h dX3_paysBy_54 (2) rfl ?_
  refine x_iload_n h dX3_paysBy_55 rfl ?_
  refine x_callVEi h (As := [.int _, .int _, .int _]) (t_pB_5_2 l G n hn _ _ q b x (t + 1) (by rw [eJ49]; exact ran_n ht) (by rw [eJ49]; exact (ran_o (by decide) (by omega)).trans hk) hb (by omega)) m_X3_363 (mlt hn rfl) rfl dX3_paysBy_56 ⟨by omega, by decide⟩ ⟨by decide, by decide⟩ rfl (Nat.le_of_ble_eq_true rfl) ?_
  refine x_nmI (fun J56 eJ56 => ?_)
  refine x_iconst h dX3_paysBy_59 (3) rfl ?_
  refine x_imul h dX3_paysBy_60 ?_
  exact x_iret h dX3_paysBy_61 rfl (xpE.to (by subst_vars; rfl) (by subst_vars; rfl) rfl rfl)
set_option maxHeartbeats 4000000 in
theorem t_pB_5_5 (l : Launch) (G : xG_T) (n : Nat) (hn : 103 ≤ n) (I : xI_T) (L : xL_T) (q : Nat) (b x : Int32) (t : Nat) (ht : I 70 33 = nI t) (hk : I 88 (ix b) = 5) (hb : vp_in b 50) (h9 : t + 2 ≤ 900) : CM l (q + 4) yX3_paysBy cX3_paysBy 5 (some .int) G n [.ref (xb G + 70), .int b, .int 5, .int x] I L (some (.int ((x ^^^ b) * 3))) (m_rans [40, 11] I) (L) := by
  refine Cg.intro (cls := RX3) (pad := 1) (lv := [some (.ref (xb G + 70)), some (.int b), some (.int 5), some (.int x), none]) rfl (by decide) (Nat.le_of_ble_eq_true rfl) rfl (fun Θ h => ?_)
  refine x_iload_n h dX3_paysBy_0 rfl ?_
  refine x_tabOut h 93 dX3_paysBy_1 (by decide) rfl ?_
  refine x_aload_n h dX3_paysBy_93 rfl ?_
  refine x_iload_n h dX3_paysBy_94 rfl ?_
  refine x_iload_n h dX3_paysBy_95 rfl ?_
  refine x_callSEi h (As := [.int _]) (t_above l G n hn _ _ _ ) m_X3_357 dX3_paysBy_96 ⟨by omega, by decide⟩ ⟨by decide, by decide⟩ rfl (Nat.le_of_ble_eq_true rfl) ?_
  refine x_eqi (3) rfl ?_
  refine x_iload_n h dX3_paysBy_99 rfl ?_
  refine x_callVEi h (As := [.int _, .int _, .int _]) (t_pB_5_3 l G n hn _ _ q b x t ht hk hb (by omega)) m_X3_363 (mlt hn rfl) rfl dX3_paysBy_100 ⟨by omega, by decide⟩ ⟨by decide, by decide⟩ rfl (Nat.le_of_ble_eq_true rfl) ?_
  refine x_nmI (fun J100 eJ100 => ?_)
  exact x_iret h dX3_paysBy_103 rfl (xpE.to (by subst_vars; rfl) (by subst_vars; rfl) rfl rfl)
set_option maxHeartbeats 4000000 in
theorem t_pB_6_0 (l : Launch) (G : xG_T) (n : Nat) (hn : 103 ≤ n) (I : xI_T) (L : xL_T) (q : Nat) (b x : Int32) (t : Nat) (ht : I 70 33 = nI t) (hk : I 88 (ix b) = 6) (hb : vp_in b 50) (h9 : t + 1 ≤ 900) : CM l (q + 1) yX3_paysBy cX3_paysBy 5 (some .int) G n [.ref (xb G + 70), .int b, .int 0, .int x] I L (some (.int (x ^^^ b))) (m_rans [11] I) (L) := by
  refine Cg.intro (cls := RX3) (pad := 1) (lv := [some (.ref (xb G + 70)), some (.int b), some (.int 0), some (.int x), none]) rfl (by decide) (Nat.le_of_ble_eq_true rfl) rfl (fun Θ h => ?_)
  refine x_iload_n h dX3_paysBy_0 rfl ?_
  refine x_tabIn h 36 dX3_paysBy_1 (by decide) (by decide) rfl rfl ?_
  refine x_aload_n h dX3_paysBy_36 rfl ?_
  refine x_bipush h dX3_paysBy_37 (11) rfl ?_
  refine x_callVEv h (As := [.int _]) (t_ran l G n hn _ _ _ t ht (by omega)) m_X3_351 (mlt hn rfl) rfl dX3_paysBy_39 ⟨by omega, by decide⟩ ⟨by decide, by decide⟩ rfl (Nat.le_of_ble_eq_true rfl) ?_
  refine x_nmI (fun J39 eJ39 => ?_)
  refine x_iload_n h dX3_paysBy_42 rfl ?_
  refine x_iload_n h dX3_paysBy_43 rfl ?_
  refine x_ixor h dX3_paysBy_44 ?_
  exact x_iret h dX3_paysBy_45 rfl (xpE.to (by subst_vars; rfl) (by subst_vars; rfl) rfl rfl)
set_option maxHeartbeats 4000000 in
theorem t_pB_6_6 (l : Launch) (G : xG_T) (n : Nat) (hn : 103 ≤ n) (I : xI_T) (L : xL_T) (q : Nat) (b x : Int32) (t : Nat) (ht : I 70 33 = nI t) (hk : I 88 (ix b) = 6) (hb : vp_in b 50) (h9 : t + 1 ≤ 900) : CM l (q + 2) yX3_paysBy cX3_paysBy 5 (some .int) G n [.ref (xb G + 70), .int b, .int 6, .int x] I L (some (.int (x ^^^ b))) (m_rans [11] I) (L) := by
  refine Cg.intro (cls := RX3) (pad := 1) (lv := [some (.ref (xb G + 70)), some (.int b), some (.int 6), some (.int x), none]) rfl (by decide) (Nat.le_of_ble_eq_true rfl) rfl (fun Θ h => ?_)
  refine x_iload_n h dX3_paysBy_0 rfl ?_
  refine x_tabOut h 93 dX3_paysBy_1 (by decide) rfl ?_
  refine x_aload_n h dX3_paysBy_93 rfl ?_
  refine x_iload_n h dX3_paysBy_94 rfl ?_
  refine x_iload_n h dX3_paysBy_95 rfl ?_
  refine x_callSEi h (As := [.int _]) (t_above l G n hn _ _ _ ) m_X3_357 dX3_paysBy_96 ⟨by omega, by decide⟩ ⟨by decide, by decide⟩ rfl (Nat.le_of_ble_eq_true rfl) ?_
  refine x_eqi (0) rfl ?_
  refine x_iload_n h dX3_paysBy_99 rfl ?_
  refine x_callVEi h (As := [.int _, .int _, .int _]) (t_pB_6_0 l G n hn _ _ q b x t ht hk hb (by omega)) m_X3_363 (mlt hn rfl) rfl dX3_paysBy_100 ⟨by omega, by decide⟩ ⟨by decide, by decide⟩ rfl (Nat.le_of_ble_eq_true rfl) ?_
  refine x_nmI (fun J100 eJ100 => ?_)
  exact x_iret h dX3_paysBy_103 rfl (xpE.to (by subst_vars; rfl) (by subst_vars; rfl) rfl rfl)
set_option maxHeartbeats 4000000 in
theorem t_pB_7_0 (l : Launch) (G : xG_T) (n : Nat) (hn : 103 ≤ n) (I : xI_T) (L : xL_T) (q : Nat) (b x : Int32) (t : Nat) (ht : I 70 33 = nI t) (hk : I 88 (ix b) = 7) (hb : vp_in b 50) (h9 : t + 1 ≤ 900) : CM l (q + 1) yX3_paysBy cX3_paysBy 5 (some .int) G n [.ref (xb G + 70), .int b, .int 0, .int x] I L (some (.int (x ^^^ b))) (m_rans [11] I) (L) := by
  refine Cg.intro (cls := RX3) (pad := 1) (lv := [some (.ref (xb G + 70)), some (.int b), some (.int 0), some (.int x), none]) rfl (by decide) (Nat.le_of_ble_eq_true rfl) rfl (fun Θ h => ?_)
  refine x_iload_n h dX3_paysBy_0 rfl ?_
  refine x_tabIn h 36 dX3_paysBy_1 (by decide) (by decide) rfl rfl ?_
  refine x_aload_n h dX3_paysBy_36 rfl ?_
  refine x_bipush h dX3_paysBy_37 (11) rfl ?_
  refine x_callVEv h (As := [.int _]) (t_ran l G n hn _ _ _ t ht (by omega)) m_X3_351 (mlt hn rfl) rfl dX3_paysBy_39 ⟨by omega, by decide⟩ ⟨by decide, by decide⟩ rfl (Nat.le_of_ble_eq_true rfl) ?_
  refine x_nmI (fun J39 eJ39 => ?_)
  refine x_iload_n h dX3_paysBy_42 rfl ?_
  refine x_iload_n h dX3_paysBy_43 rfl ?_
  refine x_ixor h dX3_paysBy_44 ?_
  exact x_iret h dX3_paysBy_45 rfl (xpE.to (by subst_vars; rfl) (by subst_vars; rfl) rfl rfl)
set_option maxHeartbeats 4000000 in
theorem t_pB_7_1 (l : Launch) (G : xG_T) (n : Nat) (hn : 103 ≤ n) (I : xI_T) (L : xL_T) (q : Nat) (b x : Int32) (t : Nat) (ht : I 70 33 = nI t) (hk : I 88 (ix b) = 7) (hb : vp_in b 50) (h9 : t + 1 ≤ 900) : CM l (q + 2) yX3_paysBy cX3_paysBy 5 (some .int) G n [.ref (xb G + 70), .int b, .int 1, .int x] I L (some (.int (x ^^^ b))) (m_rans [11] I) (L) := by
  refine Cg.intro (cls := RX3) (pad := 1) (lv := [some (.ref (xb G + 70)), some (.int b), some (.int 1), some (.int x), none]) rfl (by decide) (Nat.le_of_ble_eq_true rfl) rfl (fun Θ h => ?_)
  refine x_iload_n h dX3_paysBy_0 rfl ?_
  refine x_tabIn h 93 dX3_paysBy_1 (by decide) (by decide) rfl rfl ?_
  refine x_aload_n h dX3_paysBy_93 rfl ?_
  refine x_iload_n h dX3_paysBy_94 rfl ?_
  refine x_iload_n h dX3_paysBy_95 rfl ?_
  refine x_callSEi h (As := [.int _]) (t_above l G n hn _ _ _ ) m_X3_357 dX3_paysBy_96 ⟨by omega, by decide⟩ ⟨by decide, by decide⟩ rfl (Nat.le_of_ble_eq_true rfl) ?_
  refine x_eqi (0) rfl ?_
  refine x_iload_n h dX3_paysBy_99 rfl ?_
  refine x_callVEi h (As := [.int _, .int _, .int _]) (t_pB_7_0 l G n hn _ _ q b x t ht hk hb (by omega)) m_X3_363 (mlt hn rfl) rfl dX3_paysBy_100 ⟨by omega, by decide⟩ ⟨by decide, by decide⟩ rfl (Nat.le_of_ble_eq_true rfl) ?_
  refine x_nmI (fun J100 eJ100 => ?_)
  exact x_iret h dX3_paysBy_103 rfl (xpE.to (by subst_vars; rfl) (by subst_vars; rfl) rfl rfl)
set_option maxHeartbeats 4000000 in
theorem t_pB_7_4 (l : Launch) (G : xG_T) (n : Nat) (hn : 103 ≤ n) (I : xI_T) (L : xL_T) (q : Nat) (b x : Int32) (t : Nat) (ht : I 70 33 = nI t) (hk : I 88 (ix b) = 7) (hb : vp_in b 50) (h9 : t + 4 ≤ 900) : CM l (q + 5) yX3_paysBy cX3_paysBy 5 (some .int) G n [.ref (xb G + 70), .int b, .int 4, .int x] I L (some (.int ((x ^^^ b) - ((2 + b) + 3)))) (m_rans [50, 11, 20, 1] I) (L) := by
  refine Cg.intro (cls := RX3) (pad := 1) (lv := [some (.ref (xb G + 70)), some (.int b), some (.int 4), some (.int x), none]) rfl (by decide) (Nat.le_of_ble_eq_true rfl) rfl (fun Θ h => ?_)
  refine x_iload_n h dX3_paysBy_0 rfl ?_
  refine x_tabIn h 62 dX3_paysBy_1 (by decide) (by decide) rfl rfl ?_
  refine x_aload_n h dX3_paysBy_62 rfl ?_
  refine x_bipush h dX3_paysBy_63 (50) rfl ?_
  refine x_callVEv h (As := [.int _]) (t_ran l G n hn _ _ _ t ht (by omega)) m_X3_351 (mlt hn rfl) rfl dX3_paysBy_65 ⟨by omega, by decide⟩ ⟨by decide, by decide⟩ rfl (Nat.le_of_ble_eq_true rfl) ?_
  refine x_nmI (fun J65 eJ65 => ?_)
  refine x_aload_n h dX3_paysBy_68 rfl ?_
  refine x_iload_n h dX3_paysBy_69 rfl ?_
  refine x_iconst h dX3_paysBy_70 (1) rfl ?_
  refine x_iload_n h dX3_paysBy_71 rfl ?_
  refine x_callVEi h (As := [.int _, .int _, .int _]) (t_pB_7_1 l G n hn _ _ q b x (t + 1) (by rw [eJ65]; exact ran_n ht) (by rw [eJ65]; exact (ran_o (by decide) (by omega)).trans hk) hb (by omega)) m_X3_363 (mlt hn rfl) rfl dX3_paysBy_72 ⟨by omega, by decide⟩ ⟨by decide, by decide⟩ rfl (Nat.le_of_ble_eq_true rfl) ?_
  refine x_nmI (fun J72 eJ72 => ?_)
  refine x_nmi (fun v75 ev75 => ?_)
  refine x_istore h dX3_paysBy_75 (by decide) [some (.ref (xb G + 70)), some (.int b), some (.int 4), some (.int x), some (.int v75)] rfl ?_
  refine x_iload h dX3_paysBy_77 rfl ?_
  refine x_aload_n h dX3_paysBy_79 rfl ?_
  refine x_iload_n h dX3_paysBy_80 rfl ?_
  refine x_aload_n h dX3_paysBy_81 rfl ?_
  refine x_getr h (j := 88) g_X3_70 (mlt hn rfl) rfl (by decide) rfl dX3_paysBy_82 ?_
  refine x_iload_n h dX3_paysBy_85 rfl ?_
  refine x_iald h (mlt hn rfl) rfl hb _ rfl dX3_paysBy_86 ?_
  refine x_eqi (7) (by rw [eJ72, rans_o (by decide) (by omega), eJ65]; exact (ran_o (by decide) (by omega)).trans hk) ?_
  refine x_iconst h dX3_paysBy_87 (2) rfl ?_
  refine x_callVEi h (As := [.int _, .int _, .int _]) (t_cB_7 l G n hn _ _ q b 2 (t + 1 + 1) (by rw [eJ72]; exact rans_n [11] (by rw [eJ65]; exact ran_n ht)) (by omega)) m_X3_354 (mlt hn rfl) rfl dX3_paysBy_88 ⟨by omega, by decide⟩ ⟨by decide, by decide⟩ rfl (Nat.le_of_ble_eq_true rfl) ?_
  refine x_nmI (fun J88 eJ88 => ?_)
  refine x_isub h dX3_paysBy_91 ?_
  exact x_iret h dX3_paysBy_92 rfl (xpE.to (by subst_vars; rfl) (by subst_vars; rfl) rfl rfl)
set_option maxHeartbeats 4000000 in
theorem t_pB_7_7 (l : Launch) (G : xG_T) (n : Nat) (hn : 103 ≤ n) (I : xI_T) (L : xL_T) (q : Nat) (b x : Int32) (t : Nat) (ht : I 70 33 = nI t) (hk : I 88 (ix b) = 7) (hb : vp_in b 50) (h9 : t + 4 ≤ 900) : CM l (q + 6) yX3_paysBy cX3_paysBy 5 (some .int) G n [.ref (xb G + 70), .int b, .int 7, .int x] I L (some (.int ((x ^^^ b) - ((2 + b) + 3)))) (m_rans [50, 11, 20, 1] I) (L) := by
  refine Cg.intro (cls := RX3) (pad := 1) (lv := [some (.ref (xb G + 70)), some (.int b), some (.int 7), some (.int x), none]) rfl (by decide) (Nat.le_of_ble_eq_true rfl) rfl (fun Θ h => ?_)
  refine x_iload_n h dX3_paysBy_0 rfl ?_
  refine x_tabOut h 93 dX3_paysBy_1 (by decide) rfl ?_
  refine x_aload_n h dX3_paysBy_93 rfl ?_
  refine x_iload_n h dX3_paysBy_94 rfl ?_
  refine x_iload_n h dX3_paysBy_95 rfl ?_
  refine x_callSEi h (As := [.int _]) (t_above l G n hn _ _ _ ) m_X3_357 dX3_paysBy_96 ⟨by omega, by decide⟩ ⟨by decide, by decide⟩ rfl (Nat.le_of_ble_eq_true rfl) ?_
  refine x_eqi (4) rfl ?_
  refine x_iload_n h dX3_paysBy_99 rfl ?_
  refine x_callVEi h (As := [.int _, .int _, .int _]) (t_pB_7_4 l G n hn _ _ q b x t ht hk hb (by omega)) m_X3_363 (mlt hn rfl) rfl dX3_paysBy_100 ⟨by omega, by decide⟩ ⟨by decide, by decide⟩ rfl (Nat.le_of_ble_eq_true rfl) ?_
  refine x_nmI (fun J100 eJ100 => ?_)
  exact x_iret h dX3_paysBy_103 rfl (xpE.to (by subst_vars; rfl) (by subst_vars; rfl) rfl rfl)
set_option maxHeartbeats 4000000 in
theorem t_oB_0_0 (l : Launch) (G : xG_T) (n : Nat) (hn : 103 ≤ n) (I : xI_T) (L : xL_T) (q : Nat) (b x : Int32) (t : Nat) (ht : I 70 33 = nI t) (hk : I 88 (ix b) = 0) (hb : vp_in b 50) (h9 : t + 2 ≤ 900) : CM l (q + 2) yX3_owesBy cX3_owesBy 5 (some .int) G n [.ref (xb G + 70), .int b, .int 0, .int x] I L (some (.int ((x + b) * 2))) (m_rans [10, 1] I) (L) := by
  refine Cg.intro (cls := RX3) (pad := 1) (lv := [some (.ref (xb G + 70)), some (.int b), some (.int 0), some (.int x), none]) rfl (by decide) (Nat.le_of_ble_eq_true rfl) rfl (fun Θ h => ?_)
  refine x_iload_n h dX3_owesBy_0 rfl ?_
  refine x_tabIn h 48 dX3_owesBy_1 (by decide) (by decide) rfl rfl ?_
  refine x_aload_n h dX3_owesBy_48 rfl ?_
  refine x_bipush h dX3_owesBy_49 (10) rfl ?_
  refine x_callVEv h (As := [.int _]) (t_ran l G n hn _ _ _ t ht (by omega)) m_X3_351 (mlt hn rfl) rfl dX3_owesBy_51 ⟨by omega, by decide⟩ ⟨by decide, by decide⟩ rfl (Nat.le_of_ble_eq_true rfl) ?_
  refine x_nmI (fun J51 eJ51 => ?_)
  refine x_aload_n h dX3_owesBy_54 rfl ?_
  refine x_iload_n h dX3_owesBy_55 rfl ?_
  refine x_aload_n h dX3_owesBy_56 rfl ?_
  refine x_getr h (j := 88) g_X3_70 (mlt hn rfl) rfl (by decide) rfl dX3_owesBy_57 ?_
  refine x_iload_n h dX3_owesBy_60 rfl ?_
  refine x_iald h (mlt hn rfl) rfl hb _ rfl dX3_owesBy_61 ?_
  refine x_eqi (0) (by rw [eJ51]; exact (ran_o (by decide) (by omega)).trans hk) ?_
  refine x_iload_n h dX3_owesBy_62 rfl ?_
  refine x_callVEi h (As := [.int _, .int _, .int _]) (t_cB_0 l G n hn _ _ q b x (t + 1) (by rw [eJ51]; exact ran_n ht) (by omega)) m_X3_354 (mlt hn rfl) rfl dX3_owesBy_63 ⟨by omega, by decide⟩ ⟨by decide, by decide⟩ rfl (Nat.le_of_ble_eq_true rfl) ?_
  refine x_nmI (fun J63 eJ63 => ?_)
  refine x_iconst h dX3_owesBy_66 (2) rfl ?_
  refine x_imul h dX3_owesBy_67 ?_
  exact x_iret h dX3_owesBy_68 rfl (xpE.to (by subst_vars; rfl) (by subst_vars; rfl) rfl rfl)
set_option maxHeartbeats 4000000 in
theorem t_oB_1_0 (l : Launch) (G : xG_T) (n : Nat) (hn : 103 ≤ n) (I : xI_T) (L : xL_T) (q : Nat) (b x : Int32) (t : Nat) (ht : I 70 33 = nI t) (hk : I 88 (ix b) = 1) (hb : vp_in b 50) (h9 : t + 3 ≤ 900) : CM l (q + 3) yX3_owesBy cX3_owesBy 5 (some .int) G n [.ref (xb G + 70), .int b, .int 0, .int x] I L (some (.int (((x + b) + 3) * 2))) (m_rans [10, 20, 1] I) (L) := by
  refine Cg.intro (cls := RX3) (pad := 1) (lv := [some (.ref (xb G + 70)), some (.int b), some (.int 0), some (.int x), none]) rfl (by decide) (Nat.le_of_ble_eq_true rfl) rfl (fun Θ h => ?_)
  refine x_iload_n h dX3_owesBy_0 rfl ?_
  refine x_tabIn h 48 dX3_owesBy_1 (by decide) (by decide) rfl rfl ?_
  refine x_aload_n h dX3_owesBy_48 rfl ?_
  refine x_bipush h dX3_owesBy_49 (10) rfl ?_
  refine x_callVEv h (As := [.int _]) (t_ran l G n hn _ _ _ t ht (by omega)) m_X3_351 (mlt hn rfl) rfl dX3_owesBy_51 ⟨by omega, by decide⟩ ⟨by decide, by decide⟩ rfl (Nat.le_of_ble_eq_true rfl) ?_
  refine x_nmI (fun J51 eJ51 => ?_)
  refine x_aload_n h dX3_owesBy_54 rfl ?_
  refine x_iload_n h dX3_owesBy_55 rfl ?_
  refine x_aload_n h dX3_owesBy_56 rfl ?_
  refine x_getr h (j := 88) g_X3_70 (mlt hn rfl) rfl (by decide) rfl dX3_owesBy_57 ?_
  refine x_iload_n h dX3_owesBy_60 rfl ?_
  refine x_iald h (mlt hn rfl) rfl hb _ rfl dX3_owesBy_61 ?_
  refine x_eqi (1) (by rw [eJ51]; exact (ran_o (by decide) (by omega)).trans hk) ?_
  refine x_iload_n h dX3_owesBy_62 rfl ?_
  refine x_callVEi h (As := [.int _, .int _, .int _]) (t_cB_1 l G n hn _ _ q b x (t + 1) (by rw [eJ51]; exact ran_n ht) (by omega)) m_X3_354 (mlt hn rfl) rfl dX3_owesBy_63 ⟨by omega, by decide⟩ ⟨by decide, by decide⟩ rfl (Nat.le_of_ble_eq_true rfl) ?_
  refine x_nmI (fun J63 eJ63 => ?_)
  refine x_iconst h dX3_owesBy_66 (2) rfl ?_
  refine x_imul h dX3_owesBy_67 ?_
  exact x_iret h dX3_owesBy_68 rfl (xpE.to (by subst_vars; rfl) (by subst_vars; rfl) rfl rfl)
set_option maxHeartbeats 4000000 in
theorem t_oB_1_1 (l : Launch) (G : xG_T) (n : Nat) (hn : 103 ≤ n) (I : xI_T) (L : xL_T) (q : Nat) (b x : Int32) (t : Nat) (ht : I 70 33 = nI t) (hk : I 88 (ix b) = 1) (hb : vp_in b 50) (h9 : t + 3 ≤ 900) : CM l (q + 4) yX3_owesBy cX3_owesBy 5 (some .int) G n [.ref (xb G + 70), .int b, .int 1, .int x] I L (some (.int (((x + b) + 3) * 2))) (m_rans [10, 20, 1] I) (L) := by
  refine Cg.intro (cls := RX3) (pad := 1) (lv := [some (.ref (xb G + 70)), some (.int b), some (.int 1), some (.int x), none]) rfl (by decide) (Nat.le_of_ble_eq_true rfl) rfl (fun Θ h => ?_)
  refine x_iload_n h dX3_owesBy_0 rfl ?_
  refine x_tabIn h 131 dX3_owesBy_1 (by decide) (by decide) rfl rfl ?_
  refine x_aload_n h dX3_owesBy_131 rfl ?_
  refine x_iload_n h dX3_owesBy_132 rfl ?_
  refine x_iload_n h dX3_owesBy_133 rfl ?_
  refine x_callSEi h (As := [.int _]) (t_above l G n hn _ _ _ ) m_X3_357 dX3_owesBy_134 ⟨by omega, by decide⟩ ⟨by decide, by decide⟩ rfl (Nat.le_of_ble_eq_true rfl) ?_
  refine x_eqi (0) rfl ?_
  refine x_iload_n h dX3_owesBy_137 rfl ?_
  refine x_callVEi h (As := [.int _, .int _, .int _]) (t_oB_1_0 l G n hn _ _ q b x t ht hk hb (by omega)) m_X3_360 (mlt hn rfl) rfl dX3_owesBy_138 ⟨by omega, by decide⟩ ⟨by decide, by decide⟩ rfl (Nat.le_of_ble_eq_true rfl) ?_
  refine x_nmI (fun J138 eJ138 => ?_)
  exact x_iret h dX3_owesBy_141 rfl (xpE.to (by subst_vars; rfl) (by subst_vars; rfl) rfl rfl)
set_option maxHeartbeats 4000000 in
theorem t_oB_2_0 (l : Launch) (G : xG_T) (n : Nat) (hn : 103 ≤ n) (I : xI_T) (L : xL_T) (q : Nat) (b x : Int32) (t : Nat) (ht : I 70 33 = nI t) (hk : I 88 (ix b) = 2) (hb : vp_in b 50) (h9 : t + 2 ≤ 900) : CM l (q + 3) yX3_owesBy cX3_owesBy 5 (some .int) G n [.ref (xb G + 70), .int b, .int 0, .int x] I L (some (.int ((x + b) * 2))) (m_rans [10, 1] I) (L) := by
  refine Cg.intro (cls := RX3) (pad := 1) (lv := [some (.ref (xb G + 70)), some (.int b), some (.int 0), some (.int x), none]) rfl (by decide) (Nat.le_of_ble_eq_true rfl) rfl (fun Θ h => ?_)
  refine x_iload_n h dX3_owesBy_0 rfl ?_
  refine x_tabIn h 48 dX3_owesBy_1 (by decide) (by decide) rfl rfl ?_
  refine x_aload_n h dX3_owesBy_48 rfl ?_
  refine x_bipush h dX3_owesBy_49 (10) rfl ?_
  refine x_callVEv h (As := [.int _]) (t_ran l G n hn _ _ _ t ht (by omega)) m_X3_351 (mlt hn rfl) rfl dX3_owesBy_51 ⟨by omega, by decide⟩ ⟨by decide, by decide⟩ rfl (Nat.le_of_ble_eq_true rfl) ?_
  refine x_nmI (fun J51 eJ51 => ?_)
  refine x_aload_n h dX3_owesBy_54 rfl ?_
  refine x_iload_n h dX3_owesBy_55 rfl ?_
  refine x_aload_n h dX3_owesBy_56 rfl ?_
  refine x_getr h (j := 88) g_X3_70 (mlt hn rfl) rfl (by decide) rfl dX3_owesBy_57 ?_
  refine x_iload_n h dX3_owesBy_60 rfl ?_
  refine x_iald h (mlt hn rfl) rfl hb _ rfl dX3_owesBy_61 ?_
  refine x_eqi (2) (by rw [eJ51]; exact (ran_o (by decide) (by omega)).trans hk) ?_
  refine x_iload_n h dX3_owesBy_62 rfl ?_
  refine x_callVEi h (As := [.int _, .int _, .int _]) (t_cB_2 l G n hn _ _ q b x (t + 1) (by rw [eJ51]; exact ran_n ht) (by omega)) m_X3_354 (mlt hn rfl) rfl dX3_owesBy_63 ⟨by omega, by decide⟩ ⟨by decide, by decide⟩ rfl (Nat.le_of_ble_eq_true rfl) ?_
  refine x_nmI (fun J63 eJ63 => ?_)
  refine x_iconst h dX3_owesBy_66 (2) rfl ?_
  refine x_imul h dX3_owesBy_67 ?_
  exact x_iret h dX3_owesBy_68 rfl (xpE.to (by subst_vars; rfl) (by subst_vars; rfl) rfl rfl)
set_option maxHeartbeats 4000000 in
theorem t_oB_2_2 (l : Launch) (G : xG_T) (n : Nat) (hn : 103 ≤ n) (I : xI_T) (L : xL_T) (q : Nat) (b x : Int32) (t : Nat) (ht : I 70 33 = nI t) (hk : I 88 (ix b) = 2) (hb : vp_in b 50) (h9 : t + 3 ≤ 900) : CM l (q + 4) yX3_owesBy cX3_owesBy 5 (some .int) G n [.ref (xb G + 70), .int b, .int 2, .int x] I L (some (.int (-((x + b) * 2)))) (m_rans [30, 10, 1] I) (L) := by
  refine Cg.intro (cls := RX3) (pad := 1) (lv := [some (.ref (xb G + 70)), some (.int b), some (.int 2), some (.int x), none]) rfl (by decide) (Nat.le_of_ble_eq_true rfl) rfl (fun Θ h => ?_)
  refine x_iload_n h dX3_owesBy_0 rfl ?_
  refine x_tabIn h 69 dX3_owesBy_1 (by decide) (by decide) rfl rfl ?_
  refine x_aload_n h dX3_owesBy_69 rfl ?_
  refine x_bipush h dX3_owesBy_70 (30) rfl ?_
  refine x_callVEv h (As := [.int _]) (t_ran l G n hn _ _ _ t ht (by omega)) m_X3_351 (mlt hn rfl) rfl dX3_owesBy_72 ⟨by omega, by decide⟩ ⟨by decide, by decide⟩ rfl (Nat.le_of_ble_eq_true rfl) ?_
  refine x_nmI (fun J72 eJ72 => ?_)
  refine x_aload_n h dX3_owesBy_75 rfl ?_
  refine x_iload_n h dX3_owesBy_76 rfl ?_
  refine x_iconst h dX3_owesBy_77 (0) rfl ?_
  refine x_iload_n h dX3_owesBy_78 rfl ?_
  refine x_callVEi h (As := [.int _, .int _, .int _]) (t_oB_2_0 l G n hn _ _ q b x (t + 1) (by rw [eJ72]; exact ran_n ht) (by rw [eJ72]; exact (ran_o (by decide) (by omega)).trans hk) hb (by omega)) m_X3_360 (mlt hn rfl) rfl dX3_owesBy_79 ⟨by omega, by decide⟩ ⟨by decide, by decide⟩ rfl (Nat.le_of_ble_eq_true rfl) ?_
  refine x_nmI (fun J79 eJ79 => ?_)
  refine x_ineg h dX3_owesBy_82 ?_
  exact x_iret h dX3_owesBy_83 rfl (xpE.to (by subst_vars; rfl) (by subst_vars; rfl) rfl rfl)
set_option maxHeartbeats 4000000 in
theorem t_oB_3_0 (l : Launch) (G : xG_T) (n : Nat) (hn : 103 ≤ n) (I : xI_T) (L : xL_T) (q : Nat) (b x : Int32) (t : Nat) (ht : I 70 33 = nI t) (hk : I 88 (ix b) = 3) (hb : vp_in b 50) (h9 : t + 2 ≤ 900) : CM l (q + 4) yX3_owesBy cX3_owesBy 5 (some .int) G n [.ref (xb G + 70), .int b, .int 0, .int x] I L (some (.int ((x + b) * 2))) (m_rans [10, 1] I) (L) := by
  refine Cg.intro (cls := RX3) (pad := 1) (lv := [some (.ref (xb G + 70)), some (.int b), some (.int 0), some (.int x), none]) rfl (by decide) (Nat.le_of_ble_eq_true rfl) rfl (fun Θ h => ?_)
  refine x_iload_n h dX3_owesBy_0 rfl ?_
  refine x_tabIn h 48 dX3_owesBy_1 (by decide) (by decide) rfl rfl ?_
  refine x_aload_n h dX3_owesBy_48 rfl ?_
  refine x_bipush h dX3_owesBy_49 (10) rfl ?_
  refine x_callVEv h (As := [.int _]) (t_ran l G n hn _ _ _ t ht (by omega)) m_X3_351 (mlt hn rfl) rfl dX3_owesBy_51 ⟨by omega, by decide⟩ ⟨by decide, by decide⟩ rfl (Nat.le_of_ble_eq_true rfl) ?_
  refine x_nmI (fun J51 eJ51 => ?_)
  refine x_aload_n h dX3_owesBy_54 rfl ?_
  refine x_iload_n h dX3_owesBy_55 rfl ?_
  refine x_aload_n h dX3_owesBy_56 rfl ?_
  refine x_getr h (j := 88) g_X3_70 (mlt hn rfl) rfl (by decide) rfl dX3_owesBy_57 ?_
  refine x_iload_n h dX3_owesBy_60 rfl ?_
  refine x_iald h (mlt hn rfl) rfl hb _ rfl dX3_owesBy_61 ?_
  refine x_eqi (3) (by rw [eJ51]; exact (ran_o (by decide) (by omega)).trans hk) ?_
  refine x_iload_n h dX3_owesBy_62 rfl ?_
  refine x_callVEi h (As := [.int _, .int _, .int _]) (t_cB_3 l G n hn _ _ q b x (t + 1) (by rw [eJ51]; exact ran_n ht) (by omega)) m_X3_354 (mlt hn rfl) rfl dX3_owesBy_63 ⟨by omega, by decide⟩ ⟨by decide, by decide⟩ rfl (Nat.le_of_ble_eq_true rfl) ?_
  refine x_nmI (fun J63 eJ63 => ?_)
  refine x_iconst h dX3_owesBy_66 (2) rfl ?_
  refine x_imul h dX3_owesBy_67 ?_
  exact x_iret h dX3_owesBy_68 rfl (xpE.to (by subst_vars; rfl) (by subst_vars; rfl) rfl rfl)
set_option maxHeartbeats 4000000 in
theorem t_oB_3_2 (l : Launch) (G : xG_T) (n : Nat) (hn : 103 ≤ n) (I : xI_T) (L : xL_T) (q : Nat) (b x : Int32) (t : Nat) (ht : I 70 33 = nI t) (hk : I 88 (ix b) = 3) (hb : vp_in b 50) (h9 : t + 3 ≤ 900) : CM l (q + 5) yX3_owesBy cX3_owesBy 5 (some .int) G n [.ref (xb G + 70), .int b, .int 2, .int x] I L (some (.int (-((x + b) * 2)))) (m_rans [30, 10, 1] I) (L) := by
  refine Cg.intro (cls := RX3) (pad := 1) (lv := [some (.ref (xb G + 70)), some (.int b), some (.int 2), some (.int x), none]) rfl (by decide) (Nat.le_of_ble_eq_true rfl) rfl (fun Θ h => ?_)
  refine x_iload_n h dX3_owesBy_0 rfl ?_
  refine x_tabIn h 69 dX3_owesBy_1 (by decide) (by decide) rfl rfl ?_
  refine x_aload_n h dX3_owesBy_69 rfl ?_
  refine x_bipush h dX3_owesBy_70 (30) rfl ?_
  refine x_callVEv h (As := [.int _]) (t_ran l G n hn _ _ _ t ht (by omega)) m_X3_351 (mlt hn rfl) rfl dX3_owesBy_72 ⟨by omega, by decide⟩ ⟨by decide, by decide⟩ rfl (Nat.le_of_ble_eq_true rfl) ?_
  refine x_nmI (fun J72 eJ72 => ?_)
  refine x_aload_n h dX3_owesBy_75 rfl ?_
  refine x_iload_n h dX3_owesBy_76 rfl ?_
  refine x_iconst h dX3_owesBy_77 (0) rfl ?_
  refine x_iload_n h dX3_owesBy_78 rfl ?_
  refine x_callVEi h (As := [.int _, .int _, .int _]) (t_oB_3_0 l G n hn _ _ q b x (t + 1) (by rw [eJ72]; exact ran_n ht) (by rw [eJ72]; exact (ran_o (by decide) (by omega)).trans hk) hb (by omega)) m_X3_360 (mlt hn rfl) rfl dX3_owesBy_79 ⟨by omega, by decide⟩ ⟨by decide, by decide⟩ rfl (Nat.le_of_ble_eq_true rfl) ?_
  refine x_nmI (fun J79 eJ79 => ?_)
  refine x_ineg h dX3_owesBy_82 ?_
  exact x_iret h dX3_owesBy_83 rfl (xpE.to (by subst_vars; rfl) (by subst_vars; rfl) rfl rfl)
set_option maxHeartbeats 4000000 in
theorem t_oB_3_3 (l : Launch) (G : xG_T) (n : Nat) (hn : 103 ≤ n) (I : xI_T) (L : xL_T) (q : Nat) (b x : Int32) (t : Nat) (ht : I 70 33 = nI t) (hk : I 88 (ix b) = 3) (hb : vp_in b 50) (h9 : t + 4 ≤ 900) : CM l (q + 6) yX3_owesBy cX3_owesBy 5 (some .int) G n [.ref (xb G + 70), .int b, .int 3, .int x] I L (some (.int (-(((x + 1) + b) * 2)))) (m_rans [41, 30, 10, 1] I) (L) := by
  refine Cg.intro (cls := RX3) (pad := 1) (lv := [some (.ref (xb G + 70)), some (.int b), some (.int 3), some (.int x), none]) rfl (by decide) (Nat.le_of_ble_eq_true rfl) rfl (fun Θ h => ?_)
  refine x_iload_n h dX3_owesBy_0 rfl ?_
  refine x_tabIn h 84 dX3_owesBy_1 (by decide) (by decide) rfl rfl ?_
  refine x_aload_n h dX3_owesBy_84 rfl ?_
  refine x_bipush h dX3_owesBy_85 (41) rfl ?_
  refine x_callVEv h (As := [.int _]) (t_ran l G n hn _ _ _ t ht (by omega)) m_X3_351 (mlt hn rfl) rfl dX3_owesBy_87 ⟨by omega, by decide⟩ ⟨by decide, by decide⟩ rfl (Nat.le_of_ble_eq_true rfl) ?_
  refine x_nmI (fun J87 eJ87 => ?_)
  refine x_aload_n h dX3_owesBy_90 rfl ?_
  refine x_iload_n h dX3_owesBy_91 rfl ?_
  refine x_iconst h dX3_owesBy_92 (2) rfl ?_
  refine x_iload_n h dX3_owesBy_93 rfl ?_
  refine x_iconst h dX3_owesBy_94 (1) rfl ?_
  refine x_iadd h dX3_owesBy_95 ?_
  refine x_callVEi h (As := [.int _, .int _, .int _]) (t_oB_3_2 l G n hn _ _ q b (x + 1) (t + 1) (by rw [eJ87]; exact ran_n ht) (by rw [eJ87]; exact (ran_o (by decide) (by omega)).trans hk) hb (by omega)) m_X3_360 (mlt hn rfl) rfl dX3_owesBy_96 ⟨by omega, by decide⟩ ⟨by decide, by decide⟩ rfl (Nat.le_of_ble_eq_true rfl) ?_
  refine x_nmI (fun J96 eJ96 => ?_)
  exact x_iret h dX3_owesBy_99 rfl (xpE.to (by subst_vars; rfl) (by subst_vars; rfl) rfl rfl)
set_option maxHeartbeats 4000000 in
theorem t_oB_4_0 (l : Launch) (G : xG_T) (n : Nat) (hn : 103 ≤ n) (I : xI_T) (L : xL_T) (q : Nat) (b x : Int32) (t : Nat) (ht : I 70 33 = nI t) (hk : I 88 (ix b) = 4) (hb : vp_in b 50) (h9 : t + 3 ≤ 900) : CM l (q + 4) yX3_owesBy cX3_owesBy 5 (some .int) G n [.ref (xb G + 70), .int b, .int 0, .int x] I L (some (.int (((x + b) + 3) * 2))) (m_rans [10, 20, 1] I) (L) := by
  refine Cg.intro (cls := RX3) (pad := 1) (lv := [some (.ref (xb G + 70)), some (.int b), some (.int 0), some (.int x), none]) rfl (by decide) (Nat.le_of_ble_eq_true rfl) rfl (fun Θ h => ?_)
  refine x_iload_n h dX3_owesBy_0 rfl ?_
  refine x_tabIn h 48 dX3_owesBy_1 (by decide) (by decide) rfl rfl ?_
  refine x_aload_n h dX3_owesBy_48 rfl ?_
  refine x_bipush h dX3_owesBy_49 (10) rfl ?_
  refine x_callVEv h (As := [.int _]) (t_ran l G n hn _ _ _ t ht (by omega)) m_X3_351 (mlt hn rfl) rfl dX3_owesBy_51 ⟨by omega, by decide⟩ ⟨by decide, by decide⟩ rfl (Nat.le_of_ble_eq_true rfl) ?_
  refine x_nmI (fun J51 eJ51 => ?_)
  refine x_aload_n h dX3_owesBy_54 rfl ?_
  refine x_iload_n h dX3_owesBy_55 rfl ?_
  refine x_aload_n h dX3_owesBy_56 rfl ?_
  refine x_getr h (j := 88) g_X3_70 (mlt hn rfl) rfl (by decide) rfl dX3_owesBy_57 ?_
  refine x_iload_n h dX3_owesBy_60 rfl ?_
  refine x_iald h (mlt hn rfl) rfl hb _ rfl dX3_owesBy_61 ?_
  refine x_eqi (4) (by rw [eJ51]; exact (ran_o (by decide) (by omega)).trans hk) ?_
  refine x_iload_n h dX3_owesBy_62 rfl ?_
  refine x_callVEi h (As := [.int _, .int _, .int _]) (t_cB_4 l G n hn _ _ q b x (t + 1) (by rw [eJ51]; exact ran_n ht) (by omega)) m_X3_354 (mlt hn rfl) rfl dX3_owesBy_63 ⟨by omega, by decide⟩ ⟨by decide, by decide⟩ rfl (Nat.le_of_ble_eq_true rfl) ?_
  refine x_nmI (fun J63 eJ63 => ?_)
  refine x_iconst h dX3_owesBy_66 (2) rfl ?_
  refine x_imul h dX3_owesBy_67 ?_
  exact x_iret h dX3_owesBy_68 rfl (xpE.to (by subst_vars; rfl) (by subst_vars; rfl) rfl rfl)
set_option maxHeartbeats 4000000 in
theorem t_oB_4_1 (l : Launch) (G : xG_T) (n : Nat) (hn : 103 ≤ n) (I : xI_T) (L : xL_T) (q : Nat) (b x : Int32) (t : Nat) (ht : I 70 33 = nI t) (hk : I 88 (ix b) = 4) (hb : vp_in b 50) (h9 : t + 3 ≤ 900) : CM l (q + 5) yX3_owesBy cX3_owesBy 5 (some .int) G n [.ref (xb G + 70), .int b, .int 1, .int x] I L (some (.int (((x + b) + 3) * 2))) (m_rans [10, 20, 1] I) (L) := by
  refine Cg.intro (cls := RX3) (pad := 1) (lv := [some (.ref (xb G + 70)), some (.int b), some (.int 1), some (.int x), none]) rfl (by decide) (Nat.le_of_ble_eq_true rfl) rfl (fun Θ h => ?_)
  refine x_iload_n h dX3_owesBy_0 rfl ?_
  refine x_tabIn h 131 dX3_owesBy_1 (by decide) (by decide) rfl rfl ?_
  refine x_aload_n h dX3_owesBy_131 rfl ?_
  refine x_iload_n h dX3_owesBy_132 rfl ?_
  refine x_iload_n h dX3_owesBy_133 rfl ?_
  refine x_callSEi h (As := [.int _]) (t_above l G n hn _ _ _ ) m_X3_357 dX3_owesBy_134 ⟨by omega, by decide⟩ ⟨by decide, by decide⟩ rfl (Nat.le_of_ble_eq_true rfl) ?_
  refine x_eqi (0) rfl ?_
  refine x_iload_n h dX3_owesBy_137 rfl ?_
  refine x_callVEi h (As := [.int _, .int _, .int _]) (t_oB_4_0 l G n hn _ _ q b x t ht hk hb (by omega)) m_X3_360 (mlt hn rfl) rfl dX3_owesBy_138 ⟨by omega, by decide⟩ ⟨by decide, by decide⟩ rfl (Nat.le_of_ble_eq_true rfl) ?_
  refine x_nmI (fun J138 eJ138 => ?_)
  exact x_iret h dX3_owesBy_141 rfl (xpE.to (by subst_vars; rfl) (by subst_vars; rfl) rfl rfl)
set_option maxHeartbeats 4000000 in
theorem t_oB_4_4 (l : Launch) (G : xG_T) (n : Nat) (hn : 103 ≤ n) (I : xI_T) (L : xL_T) (q : Nat) (b x : Int32) (t : Nat) (ht : I 70 33 = nI t) (hk : I 88 (ix b) = 4) (hb : vp_in b 50) (h9 : t + 3 ≤ 900) : CM l (q + 6) yX3_owesBy cX3_owesBy 5 (some .int) G n [.ref (xb G + 70), .int b, .int 4, .int x] I L (some (.int (((x + b) + 3) * 2))) (m_rans [10, 20, 1] I) (L) := by
  refine Cg.intro (cls := RX3) (pad := 1) (lv := [some (.ref (xb G + 70)), some (.int b), some (.int 4), some (.int x), none]) rfl (by decide) (Nat.le_of_ble_eq_true rfl) rfl (fun Θ h => ?_)
  refine x_iload_n h dX3_owesBy_0 rfl ?_
  refine x_tabIn h 131 dX3_owesBy_1 (by decide) (by decide) rfl rfl ?_
  refine x_aload_n h dX3_owesBy_131 rfl ?_
  refine x_iload_n h dX3_owesBy_132 rfl ?_
  refine x_iload_n h dX3_owesBy_133 rfl ?_
  refine x_callSEi h (As := [.int _]) (t_above l G n hn _ _ _ ) m_X3_357 dX3_owesBy_134 ⟨by omega, by decide⟩ ⟨by decide, by decide⟩ rfl (Nat.le_of_ble_eq_true rfl) ?_
  refine x_eqi (1) rfl ?_
  refine x_iload_n h dX3_owesBy_137 rfl ?_
  refine x_callVEi h (As := [.int _, .int _, .int _]) (t_oB_4_1 l G n hn _ _ q b x t ht hk hb (by omega)) m_X3_360 (mlt hn rfl) rfl dX3_owesBy_138 ⟨by omega, by decide⟩ ⟨by decide, by decide⟩ rfl (Nat.le_of_ble_eq_true rfl) ?_
  refine x_nmI (fun J138 eJ138 => ?_)
  exact x_iret h dX3_owesBy_141 rfl (xpE.to (by subst_vars; rfl) (by subst_vars; rfl) rfl rfl)
set_option maxHeartbeats 4000000 in
theorem t_oB_5_0 (l : Launch) (G : xG_T) (n : Nat) (hn : 103 ≤ n) (I : xI_T) (L : xL_T) (q : Nat) (b x : Int32) (t : Nat) (ht : I 70 33 = nI t) (hk : I 88 (ix b) = 5) (hb : vp_in b 50) (h9 : t + 2 ≤ 900) : CM l (q + 5) yX3_owesBy cX3_owesBy 5 (some .int) G n [.ref (xb G + 70), .int b, .int 0, .int x] I L (some (.int ((x + b) * 2))) (m_rans [10, 1] I) (L) := by
  refine Cg.intro (cls := RX3) (pad := 1) (lv := [some (.ref (xb G + 70)), some (.int b), some (.int 0), some (.int x), none]) rfl (by decide) (Nat.le_of_ble_eq_true rfl) rfl (fun Θ h => ?_)
  refine x_iload_n h dX3_owesBy_0 rfl ?_
  refine x_tabIn h 48 dX3_owesBy_1 (by decide) (by decide) rfl rfl ?_
  refine x_aload_n h dX3_owesBy_48 rfl ?_
  refine x_bipush h dX3_owesBy_49 (10) rfl ?_
  refine x_callVEv h (As := [.int _]) (t_ran l G n hn _ _ _ t ht (by omega)) m_X3_351 (mlt hn rfl) rfl dX3_owesBy_51 ⟨by omega, by decide⟩ ⟨by decide, by decide⟩ rfl (Nat.le_of_ble_eq_true rfl) ?_
  refine x_nmI (fun J51 eJ51 => ?_)
  refine x_aload_n h dX3_owesBy_54 rfl ?_
  refine x_iload_n h dX3_owesBy_55 rfl ?_
  refine x_aload_n h dX3_owesBy_56 rfl ?_
  refine x_getr h (j := 88) g_X3_70 (mlt hn rfl) rfl (by decide) rfl dX3_owesBy_57 ?_
  refine x_iload_n h dX3_owesBy_60 rfl ?_
  refine x_iald h (mlt hn rfl) rfl hb _ rfl dX3_owesBy_61 ?_
  refine x_eqi (5) (by rw [eJ51]; exact (ran_o (by decide) (by omega)).trans hk) ?_
  refine x_iload_n h dX3_owesBy_62 rfl ?_
  refine x_callVEi h (As := [.int _, .int _, .int _]) (t_cB_5 l G n hn _ _ q b x (t + 1) (by rw [eJ51]; exact ran_n ht) (by omega)) m_X3_354 (mlt hn rfl) rfl dX3_owesBy_63 ⟨by omega, by decide⟩ ⟨by decide, by decide⟩ rfl (Nat.le_of_ble_eq_true rfl) ?_
  refine x_nmI (fun J63 eJ63 => ?_)
  refine x_iconst h dX3_owesBy_66 (2) rfl ?_
  refine x_imul h dX3_owesBy_67 ?_
  exact x_iret h dX3_owesBy_68 rfl (xpE.to (by subst_vars; rfl) (by subst_vars; rfl) rfl rfl)
set_option maxHeartbeats 4000000 in
theorem t_oB_5_2 (l : Launch) (G : xG_T) (n : Nat) (hn : 103 ≤ n) (I : xI_T) (L : xL_T) (q : Nat) (b x : Int32) (t : Nat) (ht : I 70 33 = nI t) (hk : I 88 (ix b) = 5) (hb : vp_in b 50) (h9 : t + 3 ≤ 900) : CM l (q + 6) yX3_owesBy cX3_owesBy 5 (some .int) G n [.ref (xb G + 70), .int b, .int 2, .int x] I L (some (.int (-((x + b) * 2)))) (m_rans [30, 10, 1] I) (L) := by
  refine Cg.intro (cls := RX3) (pad := 1) (lv := [some (.ref (xb G + 70)), some (.int b), some (.int 2), some (.int x), none]) rfl (by decide) (Nat.le_of_ble_eq_true rfl) rfl (fun Θ h => ?_)
  refine x_iload_n h dX3_owesBy_0 rfl ?_
  refine x_tabIn h 69 dX3_owesBy_1 (by decide) (by decide) rfl rfl ?_
  refine x_aload_n h dX3_owesBy_69 rfl ?_
  refine x_bipush h dX3_owesBy_70 (30) rfl ?_
  refine x_callVEv h (As := [.int _]) (t_ran l G n hn _ _ _ t ht (by omega)) m_X3_351 (mlt hn rfl) rfl dX3_owesBy_72 ⟨by omega, by decide⟩ ⟨by decide, by decide⟩ rfl (Nat.le_of_ble_eq_true rfl) ?_
  refine x_nmI (fun J72 eJ72 => ?_)
  refine x_aload_n h dX3_owesBy_75 rfl ?_
  refine x_iload_n h dX3_owesBy_76 rfl ?_
  refine x_iconst h dX3_owesBy_77 (0) rfl ?_
  refine x_iload_n h dX3_owesBy_78 rfl ?_
  refine x_callVEi h (As := [.int _, .int _, .int _]) (t_oB_5_0 l G n hn _ _ q b x (t + 1) (by rw [eJ72]; exact ran_n ht) (by rw [eJ72]; exact (ran_o (by decide) (by omega)).trans hk) hb (by omega)) m_X3_360 (mlt hn rfl) rfl dX3_owesBy_79 ⟨by omega, by decide⟩ ⟨by decide, by decide⟩ rfl (Nat.le_of_ble_eq_true rfl) ?_
  refine x_nmI (fun J79 eJ79 => ?_)
  refine x_ineg h dX3_owesBy_82 ?_
  exact x_iret h dX3_owesBy_83 rfl (xpE.to (by subst_vars; rfl) (by subst_vars; rfl) rfl rfl)
set_option maxHeartbeats 4000000 in
theorem t_oB_5_3 (l : Launch) (G : xG_T) (n : Nat) (hn : 103 ≤ n) (I : xI_T) (L : xL_T) (q : Nat) (b x : Int32) (t : Nat) (ht : I 70 33 = nI t) (hk : I 88 (ix b) = 5) (hb : vp_in b 50) (h9 : t + 4 ≤ 900) : CM l (q + 7) yX3_owesBy cX3_owesBy 5 (some .int) G n [.ref (xb G + 70), .int b, .int 3, .int x] I L (some (.int (-(((x + 1) + b) * 2)))) (m_rans [41, 30, 10, 1] I) (L) := by
  refine Cg.intro (cls := RX3) (pad := 1) (lv := [some (.ref (xb G + 70)), some (.int b), some (.int 3), some (.int x), none]) rfl (by decide) (Nat.le_of_ble_eq_true rfl) rfl (fun Θ h => ?_)
  refine x_iload_n h dX3_owesBy_0 rfl ?_
  refine x_tabIn h 84 dX3_owesBy_1 (by decide) (by decide) rfl rfl ?_
  refine x_aload_n h dX3_owesBy_84 rfl ?_
  refine x_bipush h dX3_owesBy_85 (41) rfl ?_
  refine x_callVEv h (As := [.int _]) (t_ran l G n hn _ _ _ t ht (by omega)) m_X3_351 (mlt hn rfl) rfl dX3_owesBy_87 ⟨by omega, by decide⟩ ⟨by decide, by decide⟩ rfl (Nat.le_of_ble_eq_true rfl) ?_
  refine x_nmI (fun J87 eJ87 => ?_)
  refine x_aload_n h dX3_owesBy_90 rfl ?_
  refine x_iload_n h dX3_owesBy_91 rfl ?_
  refine x_iconst h dX3_owesBy_92 (2) rfl ?_
  refine x_iload_n h dX3_owesBy_93 rfl ?_
  refine x_iconst h dX3_owesBy_94 (1) rfl ?_
  refine x_iadd h dX3_owesBy_95 ?_
  refine x_callVEi h (As := [.int _, .int _, .int _]) (t_oB_5_2 l G n hn _ _ q b (x + 1) (t + 1) (by rw [eJ87]; exact ran_n ht) (by rw [eJ87]; exact (ran_o (by decide) (by omega)).trans hk) hb (by omega)) m_X3_360 (mlt hn rfl) rfl dX3_owesBy_96 ⟨by omega, by decide⟩ ⟨by decide, by decide⟩ rfl (Nat.le_of_ble_eq_true rfl) ?_
  refine x_nmI (fun J96 eJ96 => ?_)
  exact x_iret h dX3_owesBy_99 rfl (xpE.to (by subst_vars; rfl) (by subst_vars; rfl) rfl rfl)
set_option maxHeartbeats 4000000 in
theorem t_oB_5_5 (l : Launch) (G : xG_T) (n : Nat) (hn : 103 ≤ n) (I : xI_T) (L : xL_T) (q : Nat) (b x : Int32) (t : Nat) (ht : I 70 33 = nI t) (hk : I 88 (ix b) = 5) (hb : vp_in b 50) (h9 : t + 4 ≤ 900) : CM l (q + 8) yX3_owesBy cX3_owesBy 5 (some .int) G n [.ref (xb G + 70), .int b, .int 5, .int x] I L (some (.int (-(((x + 1) + b) * 2)))) (m_rans [41, 30, 10, 1] I) (L) := by
  refine Cg.intro (cls := RX3) (pad := 1) (lv := [some (.ref (xb G + 70)), some (.int b), some (.int 5), some (.int x), none]) rfl (by decide) (Nat.le_of_ble_eq_true rfl) rfl (fun Θ h => ?_)
  refine x_iload_n h dX3_owesBy_0 rfl ?_
  refine x_tabIn h 131 dX3_owesBy_1 (by decide) (by decide) rfl rfl ?_
  refine x_aload_n h dX3_owesBy_131 rfl ?_
  refine x_iload_n h dX3_owesBy_132 rfl ?_
  refine x_iload_n h dX3_owesBy_133 rfl ?_
  refine x_callSEi h (As := [.int _]) (t_above l G n hn _ _ _ ) m_X3_357 dX3_owesBy_134 ⟨by omega, by decide⟩ ⟨by decide, by decide⟩ rfl (Nat.le_of_ble_eq_true rfl) ?_
  refine x_eqi (3) rfl ?_
  refine x_iload_n h dX3_owesBy_137 rfl ?_
  refine x_callVEi h (As := [.int _, .int _, .int _]) (t_oB_5_3 l G n hn _ _ q b x t ht hk hb (by omega)) m_X3_360 (mlt hn rfl) rfl dX3_owesBy_138 ⟨by omega, by decide⟩ ⟨by decide, by decide⟩ rfl (Nat.le_of_ble_eq_true rfl) ?_
  refine x_nmI (fun J138 eJ138 => ?_)
  exact x_iret h dX3_owesBy_141 rfl (xpE.to (by subst_vars; rfl) (by subst_vars; rfl) rfl rfl)
set_option maxHeartbeats 4000000 in
theorem t_oB_6_0 (l : Launch) (G : xG_T) (n : Nat) (hn : 103 ≤ n) (I : xI_T) (L : xL_T) (q : Nat) (b x : Int32) (t : Nat) (ht : I 70 33 = nI t) (hk : I 88 (ix b) = 6) (hb : vp_in b 50) (h9 : t + 3 ≤ 900) : CM l (q + 3) yX3_owesBy cX3_owesBy 5 (some .int) G n [.ref (xb G + 70), .int b, .int 0, .int x] I L (some (.int (((x + b) * 2) * 2))) (m_rans [10, 70, 1] I) (L) := by
  refine Cg.intro (cls := RX3) (pad := 1) (lv := [some (.ref (xb G + 70)), some (.int b), some (.int 0), some (.int x), none]) rfl (by decide) (Nat.le_of_ble_eq_true rfl) rfl (fun Θ h => ?_)
  refine x_iload_n h dX3_owesBy_0 rfl ?_
  refine x_tabIn h 48 dX3_owesBy_1 (by decide) (by decide) rfl rfl ?_
  refine x_aload_n h dX3_owesBy_48 rfl ?_
  refine x_bipush h dX3_owesBy_49 (10) rfl ?_
  refine x_callVEv h (As := [.int _]) (t_ran l G n hn _ _ _ t ht (by omega)) m_X3_351 (mlt hn rfl) rfl dX3_owesBy_51 ⟨by omega, by decide⟩ ⟨by decide, by decide⟩ rfl (Nat.le_of_ble_eq_true rfl) ?_
  refine x_nmI (fun J51 eJ51 => ?_)
  refine x_aload_n h dX3_owesBy_54 rfl ?_
  refine x_iload_n h dX3_owesBy_55 rfl ?_
  refine x_aload_n h dX3_owesBy_56 rfl ?_
  refine x_getr h (j := 88) g_X3_70 (mlt hn rfl) rfl (by decide) rfl dX3_owesBy_57 ?_
  refine x_iload_n h dX3_owesBy_60 rfl ?_
  refine x_iald h (mlt hn rfl) rfl hb _ rfl dX3_owesBy_61 ?_
  refine x_eqi (6) (by rw [eJ51]; exact (ran_o (by decide) (by omega)).trans hk) ?_
  refine x_iload_n h dX3_owesBy_62 rfl ?_
  refine x_callVEi h (As := [.int _, .int _, .int _]) (t_cB_6 l G n hn _ _ q b x (t + 1) (by rw [eJ51]; exact ran_n ht) (by omega)) m_X3_354 (mlt hn rfl) rfl dX3_owesBy_63 ⟨by omega, by decide⟩ ⟨by decide, by decide⟩ rfl (Nat.le_of_ble_eq_true rfl) ?_
  refine x_nmI (fun J63 eJ63 => ?_)
  refine x_iconst h dX3_owesBy_66 (2) rfl ?_
  refine x_imul h dX3_owesBy_67 ?_
  exact x_iret h dX3_owesBy_68 rfl (xpE.to (by subst_vars; rfl) (by subst_vars; rfl) rfl rfl)
set_option maxHeartbeats 4000000 in
theorem t_oB_6_6 (l : Launch) (G : xG_T) (n : Nat) (hn : 103 ≤ n) (I : xI_T) (L : xL_T) (q : Nat) (b x : Int32) (t : Nat) (ht : I 70 33 = nI t) (hk : I 88 (ix b) = 6) (hb : vp_in b 50) (h9 : t + 3 ≤ 900) : CM l (q + 4) yX3_owesBy cX3_owesBy 5 (some .int) G n [.ref (xb G + 70), .int b, .int 6, .int x] I L (some (.int (((x + b) * 2) * 2))) (m_rans [10, 70, 1] I) (L) := by
  refine Cg.intro (cls := RX3) (pad := 1) (lv := [some (.ref (xb G + 70)), some (.int b), some (.int 6), some (.int x), none]) rfl (by decide) (Nat.le_of_ble_eq_true rfl) rfl (fun Θ h => ?_)
  refine x_iload_n h dX3_owesBy_0 rfl ?_
  refine x_tabIn h 131 dX3_owesBy_1 (by decide) (by decide) rfl rfl ?_
  refine x_aload_n h dX3_owesBy_131 rfl ?_
  refine x_iload_n h dX3_owesBy_132 rfl ?_
  refine x_iload_n h dX3_owesBy_133 rfl ?_
  refine x_callSEi h (As := [.int _]) (t_above l G n hn _ _ _ ) m_X3_357 dX3_owesBy_134 ⟨by omega, by decide⟩ ⟨by decide, by decide⟩ rfl (Nat.le_of_ble_eq_true rfl) ?_
  refine x_eqi (0) rfl ?_
  refine x_iload_n h dX3_owesBy_137 rfl ?_
  refine x_callVEi h (As := [.int _, .int _, .int _]) (t_oB_6_0 l G n hn _ _ q b x t ht hk hb (by omega)) m_X3_360 (mlt hn rfl) rfl dX3_owesBy_138 ⟨by omega, by decide⟩ ⟨by decide, by decide⟩ rfl (Nat.le_of_ble_eq_true rfl) ?_
  refine x_nmI (fun J138 eJ138 => ?_)
  exact x_iret h dX3_owesBy_141 rfl (xpE.to (by subst_vars; rfl) (by subst_vars; rfl) rfl rfl)
set_option maxHeartbeats 4000000 in
theorem t_oB_7_0 (l : Launch) (G : xG_T) (n : Nat) (hn : 103 ≤ n) (I : xI_T) (L : xL_T) (q : Nat) (b x : Int32) (t : Nat) (ht : I 70 33 = nI t) (hk : I 88 (ix b) = 7) (hb : vp_in b 50) (h9 : t + 3 ≤ 900) : CM l (q + 5) yX3_owesBy cX3_owesBy 5 (some .int) G n [.ref (xb G + 70), .int b, .int 0, .int x] I L (some (.int (((x + b) + 3) * 2))) (m_rans [10, 20, 1] I) (L) := by
  refine Cg.intro (cls := RX3) (pad := 1) (lv := [some (.ref (xb G + 70)), some (.int b), some (.int 0), some (.int x), none]) rfl (by decide) (Nat.le_of_ble_eq_true rfl) rfl (fun Θ h => ?_)
  refine x_iload_n h dX3_owesBy_0 rfl ?_
  refine x_tabIn h 48 dX3_owesBy_1 (by decide) (by decide) rfl rfl ?_
  refine x_aload_n h dX3_owesBy_48 rfl ?_
  refine x_bipush h dX3_owesBy_49 (10) rfl ?_
  refine x_callVEv h (As := [.int _]) (t_ran l G n hn _ _ _ t ht (by omega)) m_X3_351 (mlt hn rfl) rfl dX3_owesBy_51 ⟨by omega, by decide⟩ ⟨by decide, by decide⟩ rfl (Nat.le_of_ble_eq_true rfl) ?_
  refine x_nmI (fun J51 eJ51 => ?_)
  refine x_aload_n h dX3_owesBy_54 rfl ?_
  refine x_iload_n h dX3_owesBy_55 rfl ?_
  refine x_aload_n h dX3_owesBy_56 rfl ?_
  refine x_getr h (j := 88) g_X3_70 (mlt hn rfl) rfl (by decide) rfl dX3_owesBy_57 ?_
  refine x_iload_n h dX3_owesBy_60 rfl ?_
  refine x_iald h (mlt hn rfl) rfl hb _ rfl dX3_owesBy_61 ?_
  refine x_eqi (7) (by rw [eJ51]; exact (ran_o (by decide) (by omega)).trans hk) ?_
  refine x_iload_n h dX3_owesBy_62 rfl ?_
  refine x_callVEi h (As := [.int _, .int _, .int _]) (t_cB_7 l G n hn _ _ q b x (t + 1) (by rw [eJ51]; exact ran_n ht) (by omega)) m_X3_354 (mlt hn rfl) rfl dX3_owesBy_63 ⟨by omega, by decide⟩ ⟨by decide, by decide⟩ rfl (Nat.le_of_ble_eq_true rfl) ?_
  refine x_nmI (fun J63 eJ63 => ?_)
  refine x_iconst h dX3_owesBy_66 (2) rfl ?_
  refine x_imul h dX3_owesBy_67 ?_
  exact x_iret h dX3_owesBy_68 rfl (xpE.to (by subst_vars; rfl) (by subst_vars; rfl) rfl rfl)
set_option maxHeartbeats 4000000 in
theorem t_oB_7_1 (l : Launch) (G : xG_T) (n : Nat) (hn : 103 ≤ n) (I : xI_T) (L : xL_T) (q : Nat) (b x : Int32) (t : Nat) (ht : I 70 33 = nI t) (hk : I 88 (ix b) = 7) (hb : vp_in b 50) (h9 : t + 3 ≤ 900) : CM l (q + 6) yX3_owesBy cX3_owesBy 5 (some .int) G n [.ref (xb G + 70), .int b, .int 1, .int x] I L (some (.int (((x + b) + 3) * 2))) (m_rans [10, 20, 1] I) (L) := by
  refine Cg.intro (cls := RX3) (pad := 1) (lv := [some (.ref (xb G + 70)), some (.int b), some (.int 1), some (.int x), none]) rfl (by decide) (Nat.le_of_ble_eq_true rfl) rfl (fun Θ h => ?_)
  refine x_iload_n h dX3_owesBy_0 rfl ?_
  refine x_tabIn h 131 dX3_owesBy_1 (by decide) (by decide) rfl rfl ?_
  refine x_aload_n h dX3_owesBy_131 rfl ?_
  refine x_iload_n h dX3_owesBy_132 rfl ?_
  refine x_iload_n h dX3_owesBy_133 rfl ?_
  refine x_callSEi h (As := [.int _]) (t_above l G n hn _ _ _ ) m_X3_357 dX3_owesBy_134 ⟨by omega, by decide⟩ ⟨by decide, by decide⟩ rfl (Nat.le_of_ble_eq_true rfl) ?_
  refine x_eqi (0) rfl ?_
  refine x_iload_n h dX3_owesBy_137 rfl ?_
  refine x_callVEi h (As := [.int _, .int _, .int _]) (t_oB_7_0 l G n hn _ _ q b x t ht hk hb (by omega)) m_X3_360 (mlt hn rfl) rfl dX3_owesBy_138 ⟨by omega, by decide⟩ ⟨by decide, by decide⟩ rfl (Nat.le_of_ble_eq_true rfl) ?_
  refine x_nmI (fun J138 eJ138 => ?_)
  exact x_iret h dX3_owesBy_141 rfl (xpE.to (by subst_vars; rfl) (by subst_vars; rfl) rfl rfl)
set_option maxHeartbeats 4000000 in
theorem t_oB_7_4 (l : Launch) (G : xG_T) (n : Nat) (hn : 103 ≤ n) (I : xI_T) (L : xL_T) (q : Nat) (b x : Int32) (t : Nat) (ht : I 70 33 = nI t) (hk : I 88 (ix b) = 7) (hb : vp_in b 50) (h9 : t + 3 ≤ 900) : CM l (q + 7) yX3_owesBy cX3_owesBy 5 (some .int) G n [.ref (xb G + 70), .int b, .int 4, .int x] I L (some (.int (((x + b) + 3) * 2))) (m_rans [10, 20, 1] I) (L) := by
  refine Cg.intro (cls := RX3) (pad := 1) (lv := [some (.ref (xb G + 70)), some (.int b), some (.int 4), some (.int x), none]) rfl (by decide) (Nat.le_of_ble_eq_true rfl) rfl (fun Θ h => ?_)
  refine x_iload_n h dX3_owesBy_0 rfl ?_
  refine x_tabIn h 131 dX3_owesBy_1 (by decide) (by decide) rfl rfl ?_
  refine x_aload_n h dX3_owesBy_131 rfl ?_
  refine x_iload_n h dX3_owesBy_132 rfl ?_
  refine x_iload_n h dX3_owesBy_133 rfl ?_
  refine x_callSEi h (As := [.int _]) (t_above l G n hn _ _ _ ) m_X3_357 dX3_owesBy_134 ⟨by omega, by decide⟩ ⟨by decide, by decide⟩ rfl (Nat.le_of_ble_eq_true rfl) ?_
  refine x_eqi (1) rfl ?_
  refine x_iload_n h dX3_owesBy_137 rfl ?_
  refine x_callVEi h (As := [.int _, .int _, .int _]) (t_oB_7_1 l G n hn _ _ q b x t ht hk hb (by omega)) m_X3_360 (mlt hn rfl) rfl dX3_owesBy_138 ⟨by omega, by decide⟩ ⟨by decide, by decide⟩ rfl (Nat.le_of_ble_eq_true rfl) ?_
  refine x_nmI (fun J138 eJ138 => ?_)
  exact x_iret h dX3_owesBy_141 rfl (xpE.to (by subst_vars; rfl) (by subst_vars; rfl) rfl rfl)
set_option maxHeartbeats 4000000 in
theorem t_oB_7_7 (l : Launch) (G : xG_T) (n : Nat) (hn : 103 ≤ n) (I : xI_T) (L : xL_T) (q : Nat) (b x : Int32) (t : Nat) (ht : I 70 33 = nI t) (hk : I 88 (ix b) = 7) (hb : vp_in b 50) (h9 : t + 8 ≤ 900) : CM l (q + 8) yX3_owesBy cX3_owesBy 5 (some .int) G n [.ref (xb G + 70), .int b, .int 7, .int x] I L (some (.int ((((x + b) + 3) * 2) + ((2 ^^^ b) - ((2 + b) + 3))))) (m_rans [80, 10, 20, 1, 50, 11, 20, 1] I) (L) := by
  refine Cg.intro (cls := RX3) (pad := 1) (lv := [some (.ref (xb G + 70)), some (.int b), some (.int 7), some (.int x), none]) rfl (by decide) (Nat.le_of_ble_eq_true rfl) rfl (fun Θ h => ?_)
  refine x_iload_n h dX3_owesBy_0 rfl ?_
  refine x_tabIn h 100 dX3_owesBy_1 (by decide) (by decide) rfl rfl ?_
  refine x_aload_n h dX3_owesBy_100 rfl ?_
  refine x_bipush h dX3_owesBy_101 (80) rfl ?_
  refine x_callVEv h (As := [.int _]) (t_ran l G n hn _ _ _ t ht (by omega)) m_X3_351 (mlt hn rfl) rfl dX3_owesBy_103 ⟨by omega, by decide⟩ ⟨by decide, by decide⟩ rfl (Nat.le_of_ble_eq_true rfl) ?_
  refine x_nmI (fun J103 eJ103 => ?_)
  refine x_aload_n h dX3_owesBy_106 rfl ?_
  refine x_iload_n h dX3_owesBy_107 rfl ?_
  refine x_iconst h dX3_owesBy_108 (4) rfl ?_
  refine x_iload_n h dX3_owesBy_109 rfl ?_
  refine x_callVEi h (As := [.int _, .int _, .int _]) (t_oB_7_4 l G n hn _ _ q b x (t + 1) (by rw [eJ103]; exact ran_n ht) (by rw [eJ103]; exact (ran_o (by decide) (by omega)).trans hk) hb (by omega)) m_X3_360 (mlt hn rfl) rfl dX3_owesBy_110 ⟨by omega, by decide⟩ ⟨by decide, by decide⟩ rfl (Nat.le_of_ble_eq_true rfl) ?_
  refine x_nmI (fun J110 eJ110 => ?_)
  refine x_nmi (fun v113 ev113 => ?_)
  refine x_istore h dX3_owesBy_113 (by decide) [some (.ref (xb G + 70)), some (.int b), some (.int 7), some (.int x), some (.int v113)] rfl ?_
  refine x_iload h dX3_owesBy_115 rfl ?_
  refine x_aload_n h dX3_owesBy_117 rfl ?_
  refine x_iload_n h dX3_owesBy_118 rfl ?_
  refine x_aload_n h dX3_owesBy_119 rfl ?_
  refine x_getr h (j := 88) g_X3_70 (mlt hn rfl) rfl (by decide) rfl dX3_owesBy_120 ?_
  refine x_iload_n h dX3_owesBy_123 rfl ?_
  refine x_iald h (mlt hn rfl) rfl hb _ rfl dX3_owesBy_124 ?_
  refine x_eqi (7) (by rw [eJ110, rans_o (by decide) (by omega), eJ103]; exact (ran_o (by decide) (by omega)).trans hk) ?_
  refine x_iconst h dX3_owesBy_125 (2) rfl ?_
  refine x_callVEi h (As := [.int _, .int _, .int _]) (t_pB_7_7 l G n hn _ _ q b 2 (t + 1 + 3) (by rw [eJ110]; exact rans_n [10, 20, 1] (by rw [eJ103]; exact ran_n ht)) (by rw [eJ110, rans_o (by decide) (by omega), eJ103]; exact (ran_o (by decide) (by omega)).trans hk) hb (by omega)) m_X3_363 (mlt hn rfl) rfl dX3_owesBy_126 ⟨by omega, by decide⟩ ⟨by decide, by decide⟩ rfl (Nat.le_of_ble_eq_true rfl) ?_
  refine x_nmI (fun J126 eJ126 => ?_)
  refine x_iadd h dX3_owesBy_129 ?_
  exact x_iret h dX3_owesBy_130 rfl (xpE.to (by subst_vars; rfl) (by subst_vars; rfl) rfl rfl)
set_option maxHeartbeats 4000000 in
theorem t_tB_0_0 (l : Launch) (G : xG_T) (n : Nat) (hn : 103 ≤ n) (I : xI_T) (L : xL_T) (q : Nat) (b x : Int32) (t : Nat) (ht : I 70 33 = nI t) (hk : I 88 (ix b) = 0) (hb : vp_in b 50) (h9 : t + 4 ≤ 900) : CM l (q + 3) yX3_tells cX3_tells 5 (some .int) G n [.ref (xb G + 70), .int b, .int 0, .int x] I L (some (.int (((x + b) * 2) - (1 ^^^ b)))) (m_rans [2, 10, 1, 11] I) (L) := by
  refine Cg.intro (cls := RX3) (pad := 1) (lv := [some (.ref (xb G + 70)), some (.int b), some (.int 0), some (.int x), none]) rfl (by decide) (Nat.le_of_ble_eq_true rfl) rfl (fun Θ h => ?_)
  refine x_iload_n h dX3_tells_0 rfl ?_
  refine x_look h 36 dX3_tells_1 (by decide) rfl rfl ?_
  refine x_aload_n h dX3_tells_36 rfl ?_
  refine x_iconst h dX3_tells_37 (2) rfl ?_
  refine x_callVEv h (As := [.int _]) (t_ran l G n hn _ _ _ t ht (by omega)) m_X3_351 (mlt hn rfl) rfl dX3_tells_38 ⟨by omega, by decide⟩ ⟨by decide, by decide⟩ rfl (Nat.le_of_ble_eq_true rfl) ?_
  refine x_nmI (fun J38 eJ38 => ?_)
  refine x_aload_n h dX3_tells_41 rfl ?_
  refine x_iload_n h dX3_tells_42 rfl ?_
  refine x_aload_n h dX3_tells_43 rfl ?_
  refine x_getr h (j := 88) g_X3_70 (mlt hn rfl) rfl (by decide) rfl dX3_tells_44 ?_
  refine x_iload_n h dX3_tells_47 rfl ?_
  refine x_iald h (mlt hn rfl) rfl hb _ rfl dX3_tells_48 ?_
  refine x_eqi (0) (by rw [eJ38]; exact (ran_o (by decide) (by omega)).trans hk) ?_
  refine x_iload_n h dX3_tells_49 rfl ?_
  refine x_callVEi h (As := [.int _, .int _, .int _]) (t_oB_0_0 l G n hn _ _ q b x (t + 1) (by rw [eJ38]; exact ran_n ht) (by rw [eJ38]; exact (ran_o (by decide) (by omega)).trans hk) hb (by omega)) m_X3_360 (mlt hn rfl) rfl dX3_tells_50 ⟨by omega, by decide⟩ ⟨by decide, by decide⟩ rfl (Nat.le_of_ble_eq_true rfl) ?_
  refine x_nmI (fun J50 eJ50 => ?_)
  refine x_nmi (fun v53 ev53 => ?_)
  refine x_istore h dX3_tells_53 (by decide) [some (.ref (xb G + 70)), some (.int b), some (.int 0), some (.int x), some (.int v53)] rfl ?_
  refine x_iload h dX3_tells_55 rfl ?_
  refine x_aload_n h dX3_tells_57 rfl ?_
  refine x_iload_n h dX3_tells_58 rfl ?_
  refine x_aload_n h dX3_tells_59 rfl ?_
  refine x_getr h (j := 88) g_X3_70 (mlt hn rfl) rfl (by decide) rfl dX3_tells_60 ?_
  refine x_iload_n h dX3_tells_63 rfl ?_
  refine x_iald h (mlt hn rfl) rfl hb _ rfl dX3_tells_64 ?_
  refine x_eqi (0) (by rw [eJ50, rans_o (by decide) (by omega), eJ38]; exact (ran_o (by decide) (by omega)).trans hk) ?_
  refine x_iconst h dX3_tells_65 (1) rfl ?_
  refine x_callVEi h (As := [.int _, .int _, .int _]) (t_pB_0_0 l G n hn _ _ q b 1 (t + 1 + 2) (by rw [eJ50]; exact rans_n [10, 1] (by rw [eJ38]; exact ran_n ht)) (by rw [eJ50, rans_o (by decide) (by omega), eJ38]; exact (ran_o (by decide) (by omega)).trans hk) hb (by omega)) m_X3_363 (mlt hn rfl) rfl dX3_tells_66 ⟨by omega, by decide⟩ ⟨by decide, by decide⟩ rfl (Nat.le_of_ble_eq_true rfl) ?_
  refine x_nmI (fun J66 eJ66 => ?_)
  refine x_isub h dX3_tells_69 ?_
  exact x_iret h dX3_tells_70 rfl (xpE.to (by subst_vars; rfl) (by subst_vars; rfl) rfl rfl)
set_option maxHeartbeats 4000000 in
theorem t_tB_1_0 (l : Launch) (G : xG_T) (n : Nat) (hn : 103 ≤ n) (I : xI_T) (L : xL_T) (q : Nat) (b x : Int32) (t : Nat) (ht : I 70 33 = nI t) (hk : I 88 (ix b) = 1) (hb : vp_in b 50) (h9 : t + 5 ≤ 900) : CM l (q + 5) yX3_tells cX3_tells 5 (some .int) G n [.ref (xb G + 70), .int b, .int 0, .int x] I L (some (.int ((((x + b) + 3) * 2) - (1 ^^^ b)))) (m_rans [2, 10, 20, 1, 11] I) (L) := by
  refine Cg.intro (cls := RX3) (pad := 1) (lv := [some (.ref (xb G + 70)), some (.int b), some (.int 0), some (.int x), none]) rfl (by decide) (Nat.le_of_ble_eq_true rfl) rfl (fun Θ h => ?_)
  refine x_iload_n h dX3_tells_0 rfl ?_
  refine x_look h 36 dX3_tells_1 (by decide) rfl rfl ?_
  refine x_aload_n h dX3_tells_36 rfl ?_
  refine x_iconst h dX3_tells_37 (2) rfl ?_
  refine x_callVEv h (As := [.int _]) (t_ran l G n hn _ _ _ t ht (by omega)) m_X3_351 (mlt hn rfl) rfl dX3_tells_38 ⟨by omega, by decide⟩ ⟨by decide, by decide⟩ rfl (Nat.le_of_ble_eq_true rfl) ?_
  refine x_nmI (fun J38 eJ38 => ?_)
  refine x_aload_n h dX3_tells_41 rfl ?_
  refine x_iload_n h dX3_tells_42 rfl ?_
  refine x_aload_n h dX3_tells_43 rfl ?_
  refine x_getr h (j := 88) g_X3_70 (mlt hn rfl) rfl (by decide) rfl dX3_tells_44 ?_
  refine x_iload_n h dX3_tells_47 rfl ?_
  refine x_iald h (mlt hn rfl) rfl hb _ rfl dX3_tells_48 ?_
  refine x_eqi (1) (by rw [eJ38]; exact (ran_o (by decide) (by omega)).trans hk) ?_
  refine x_iload_n h dX3_tells_49 rfl ?_
  refine x_callVEi h (As := [.int _, .int _, .int _]) (t_oB_1_1 l G n hn _ _ q b x (t + 1) (by rw [eJ38]; exact ran_n ht) (by rw [eJ38]; exact (ran_o (by decide) (by omega)).trans hk) hb (by omega)) m_X3_360 (mlt hn rfl) rfl dX3_tells_50 ⟨by omega, by decide⟩ ⟨by decide, by decide⟩ rfl (Nat.le_of_ble_eq_true rfl) ?_
  refine x_nmI (fun J50 eJ50 => ?_)
  refine x_nmi (fun v53 ev53 => ?_)
  refine x_istore h dX3_tells_53 (by decide) [some (.ref (xb G + 70)), some (.int b), some (.int 0), some (.int x), some (.int v53)] rfl ?_
  refine x_iload h dX3_tells_55 rfl ?_
  refine x_aload_n h dX3_tells_57 rfl ?_
  refine x_iload_n h dX3_tells_58 rfl ?_
  refine x_aload_n h dX3_tells_59 rfl ?_
  refine x_getr h (j := 88) g_X3_70 (mlt hn rfl) rfl (by decide) rfl dX3_tells_60 ?_
  refine x_iload_n h dX3_tells_63 rfl ?_
  refine x_iald h (mlt hn rfl) rfl hb _ rfl dX3_tells_64 ?_
  refine x_eqi (1) (by rw [eJ50, rans_o (by decide) (by omega), eJ38]; exact (ran_o (by decide) (by omega)).trans hk) ?_
  refine x_iconst h dX3_tells_65 (1) rfl ?_
  refine x_callVEi h (As := [.int _, .int _, .int _]) (t_pB_1_1 l G n hn _ _ q b 1 (t + 1 + 3) (by rw [eJ50]; exact rans_n [10, 20, 1] (by rw [eJ38]; exact ran_n ht)) (by rw [eJ50, rans_o (by decide) (by omega), eJ38]; exact (ran_o (by decide) (by omega)).trans hk) hb (by omega)) m_X3_363 (mlt hn rfl) rfl dX3_tells_66 ⟨by omega, by decide⟩ ⟨by decide, by decide⟩ rfl (Nat.le_of_ble_eq_true rfl) ?_
  refine x_nmI (fun J66 eJ66 => ?_)
  refine x_isub h dX3_tells_69 ?_
  exact x_iret h dX3_tells_70 rfl (xpE.to (by subst_vars; rfl) (by subst_vars; rfl) rfl rfl)
set_option maxHeartbeats 4000000 in
theorem t_tB_1_1 (l : Launch) (G : xG_T) (n : Nat) (hn : 103 ≤ n) (I : xI_T) (L : xL_T) (q : Nat) (b x : Int32) (t : Nat) (ht : I 70 33 = nI t) (hk : I 88 (ix b) = 1) (hb : vp_in b 50) (h9 : t + 5 ≤ 900) : CM l (q + 6) yX3_tells cX3_tells 5 (some .int) G n [.ref (xb G + 70), .int b, .int 1, .int x] I L (some (.int ((((x + b) + 3) * 2) - (1 ^^^ b)))) (m_rans [2, 10, 20, 1, 11] I) (L) := by
  refine Cg.intro (cls := RX3) (pad := 1) (lv := [some (.ref (xb G + 70)), some (.int b), some (.int 1), some (.int x), none]) rfl (by decide) (Nat.le_of_ble_eq_true rfl) rfl (fun Θ h => ?_)
  refine x_iload_n h dX3_tells_0 rfl ?_
  refine x_look h 103 dX3_tells_1 (by decide) rfl rfl ?_
  refine x_aload_n h dX3_tells_103 rfl ?_
  refine x_iload_n h dX3_tells_104 rfl ?_
  refine x_iload_n h dX3_tells_105 rfl ?_
  refine x_callSEi h (As := [.int _]) (t_above l G n hn _ _ _ ) m_X3_357 dX3_tells_106 ⟨by omega, by decide⟩ ⟨by decide, by decide⟩ rfl (Nat.le_of_ble_eq_true rfl) ?_
  refine x_eqi (0) rfl ?_
  refine x_iload_n h dX3_tells_109 rfl ?_
  refine x_callVEi h (As := [.int _, .int _, .int _]) (t_tB_1_0 l G n hn _ _ q b x t ht hk hb (by omega)) m_X3_366 (mlt hn rfl) rfl dX3_tells_110 ⟨by omega, by decide⟩ ⟨by decide, by decide⟩ rfl (Nat.le_of_ble_eq_true rfl) ?_
  refine x_nmI (fun J110 eJ110 => ?_)
  exact x_iret h dX3_tells_113 rfl (xpE.to (by subst_vars; rfl) (by subst_vars; rfl) rfl rfl)
set_option maxHeartbeats 4000000 in
theorem t_tB_2_0 (l : Launch) (G : xG_T) (n : Nat) (hn : 103 ≤ n) (I : xI_T) (L : xL_T) (q : Nat) (b x : Int32) (t : Nat) (ht : I 70 33 = nI t) (hk : I 88 (ix b) = 2) (hb : vp_in b 50) (h9 : t + 5 ≤ 900) : CM l (q + 5) yX3_tells cX3_tells 5 (some .int) G n [.ref (xb G + 70), .int b, .int 0, .int x] I L (some (.int ((-((x + b) * 2)) - (1 ^^^ b)))) (m_rans [2, 30, 10, 1, 11] I) (L) := by
  refine Cg.intro (cls := RX3) (pad := 1) (lv := [some (.ref (xb G + 70)), some (.int b), some (.int 0), some (.int x), none]) rfl (by decide) (Nat.le_of_ble_eq_true rfl) rfl (fun Θ h => ?_)
  refine x_iload_n h dX3_tells_0 rfl ?_
  refine x_look h 36 dX3_tells_1 (by decide) rfl rfl ?_
  refine x_aload_n h dX3_tells_36 rfl ?_
  refine x_iconst h dX3_tells_37 (2) rfl ?_
  refine x_callVEv h (As := [.int _]) (t_ran l G n hn _ _ _ t ht (by omega)) m_X3_351 (mlt hn rfl) rfl dX3_tells_38 ⟨by omega, by decide⟩ ⟨by decide, by decide⟩ rfl (Nat.le_of_ble_eq_true rfl) ?_
  refine x_nmI (fun J38 eJ38 => ?_)
  refine x_aload_n h dX3_tells_41 rfl ?_
  refine x_iload_n h dX3_tells_42 rfl ?_
  refine x_aload_n h dX3_tells_43 rfl ?_
  refine x_getr h (j := 88) g_X3_70 (mlt hn rfl) rfl (by decide) rfl dX3_tells_44 ?_
  refine x_iload_n h dX3_tells_47 rfl ?_
  refine x_iald h (mlt hn rfl) rfl hb _ rfl dX3_tells_48 ?_
  refine x_eqi (2) (by rw [eJ38]; exact (ran_o (by decide) (by omega)).trans hk) ?_
  refine x_iload_n h dX3_tells_49 rfl ?_
  refine x_callVEi h (As := [.int _, .int _, .int _]) (t_oB_2_2 l G n hn _ _ q b x (t + 1) (by rw [eJ38]; exact ran_n ht) (by rw [eJ38]; exact (ran_o (by decide) (by omega)).trans hk) hb (by omega)) m_X3_360 (mlt hn rfl) rfl dX3_tells_50 ⟨by omega, by decide⟩ ⟨by decide, by decide⟩ rfl (Nat.le_of_ble_eq_true rfl) ?_
  refine x_nmI (fun J50 eJ50 => ?_)
  refine x_nmi (fun v53 ev53 => ?_)
  refine x_istore h dX3_tells_53 (by decide) [some (.ref (xb G + 70)), some (.int b), some (.int 0), some (.int x), some (.int v53)] rfl ?_
  refine x_iload h dX3_tells_55 rfl ?_
  refine x_aload_n h dX3_tells_57 rfl ?_
  refine x_iload_n h dX3_tells_58 rfl ?_
  refine x_aload_n h dX3_tells_59 rfl ?_
  refine x_getr h (j := 88) g_X3_70 (mlt hn rfl) rfl (by decide) rfl dX3_tells_60 ?_
  refine x_iload_n h dX3_tells_63 rfl ?_
  refine x_iald h (mlt hn rfl) rfl hb _ rfl dX3_tells_64 ?_
  refine x_eqi (2) (by rw [eJ50, rans_o (by decide) (by omega), eJ38]; exact (ran_o (by decide) (by omega)).trans hk) ?_
  refine x_iconst h dX3_tells_65 (1) rfl ?_
  refine x_callVEi h (As := [.int _, .int _, .int _]) (t_pB_2_2 l G n hn _ _ q b 1 (t + 1 + 3) (by rw [eJ50]; exact rans_n [30, 10, 1] (by rw [eJ38]; exact ran_n ht)) (by rw [eJ50, rans_o (by decide) (by omega), eJ38]; exact (ran_o (by decide) (by omega)).trans hk) hb (by omega)) m_X3_363 (mlt hn rfl) rfl dX3_tells_66 ⟨by omega, by decide⟩ ⟨by decide, by decide⟩ rfl (Nat.le_of_ble_eq_true rfl) ?_
  refine x_nmI (fun J66 eJ66 => ?_)
  refine x_isub h dX3_tells_69 ?_
  exact x_iret h dX3_tells_70 rfl (xpE.to (by subst_vars; rfl) (by subst_vars; rfl) rfl rfl)
set_option maxHeartbeats 4000000 in
theorem t_tB_2_2 (l : Launch) (G : xG_T) (n : Nat) (hn : 103 ≤ n) (I : xI_T) (L : xL_T) (q : Nat) (b x : Int32) (t : Nat) (ht : I 70 33 = nI t) (hk : I 88 (ix b) = 2) (hb : vp_in b 50) (h9 : t + 5 ≤ 900) : CM l (q + 6) yX3_tells cX3_tells 5 (some .int) G n [.ref (xb G + 70), .int b, .int 2, .int x] I L (some (.int ((-((x + b) * 2)) - (1 ^^^ b)))) (m_rans [2, 30, 10, 1, 11] I) (L) := by
  refine Cg.intro (cls := RX3) (pad := 1) (lv := [some (.ref (xb G + 70)), some (.int b), some (.int 2), some (.int x), none]) rfl (by decide) (Nat.le_of_ble_eq_true rfl) rfl (fun Θ h => ?_)
  refine x_iload_n h dX3_tells_0 rfl ?_
  refine x_look h 103 dX3_tells_1 (by decide) rfl rfl ?_
  refine x_aload_n h dX3_tells_103 rfl ?_
  refine x_iload_n h dX3_tells_104 rfl ?_
  refine x_iload_n h dX3_tells_105 rfl ?_
  refine x_callSEi h (As := [.int _]) (t_above l G n hn _ _ _ ) m_X3_357 dX3_tells_106 ⟨by omega, by decide⟩ ⟨by decide, by decide⟩ rfl (Nat.le_of_ble_eq_true rfl) ?_
  refine x_eqi (0) rfl ?_
  refine x_iload_n h dX3_tells_109 rfl ?_
  refine x_callVEi h (As := [.int _, .int _, .int _]) (t_tB_2_0 l G n hn _ _ q b x t ht hk hb (by omega)) m_X3_366 (mlt hn rfl) rfl dX3_tells_110 ⟨by omega, by decide⟩ ⟨by decide, by decide⟩ rfl (Nat.le_of_ble_eq_true rfl) ?_
  refine x_nmI (fun J110 eJ110 => ?_)
  exact x_iret h dX3_tells_113 rfl (xpE.to (by subst_vars; rfl) (by subst_vars; rfl) rfl rfl)
set_option maxHeartbeats 4000000 in
theorem t_tB_3_0 (l : Launch) (G : xG_T) (n : Nat) (hn : 103 ≤ n) (I : xI_T) (L : xL_T) (q : Nat) (b x : Int32) (t : Nat) (ht : I 70 33 = nI t) (hk : I 88 (ix b) = 3) (hb : vp_in b 50) (h9 : t + 7 ≤ 900) : CM l (q + 7) yX3_tells cX3_tells 5 (some .int) G n [.ref (xb G + 70), .int b, .int 0, .int x] I L (some (.int ((-(((x + 1) + b) * 2)) - ((1 ^^^ b) * 3)))) (m_rans [2, 41, 30, 10, 1, 40, 11] I) (L) := by
  refine Cg.intro (cls := RX3) (pad := 1) (lv := [some (.ref (xb G + 70)), some (.int b), some (.int 0), some (.int x), none]) rfl (by decide) (Nat.le_of_ble_eq_true rfl) rfl (fun Θ h => ?_)
  refine x_iload_n h dX3_tells_0 rfl ?_
  refine x_look h 36 dX3_tells_1 (by decide) rfl rfl ?_
  refine x_aload_n h dX3_tells_36 rfl ?_
  refine x_iconst h dX3_tells_37 (2) rfl ?_
  refine x_callVEv h (As := [.int _]) (t_ran l G n hn _ _ _ t ht (by omega)) m_X3_351 (mlt hn rfl) rfl dX3_tells_38 ⟨by omega, by decide⟩ ⟨by decide, by decide⟩ rfl (Nat.le_of_ble_eq_true rfl) ?_
  refine x_nmI (fun J38 eJ38 => ?_)
  refine x_aload_n h dX3_tells_41 rfl ?_
  refine x_iload_n h dX3_tells_42 rfl ?_
  refine x_aload_n h dX3_tells_43 rfl ?_
  refine x_getr h (j := 88) g_X3_70 (mlt hn rfl) rfl (by decide) rfl dX3_tells_44 ?_
  refine x_iload_n h dX3_tells_47 rfl ?_
  refine x_iald h (mlt hn rfl) rfl hb _ rfl dX3_tells_48 ?_
  refine x_eqi (3) (by rw [eJ38]; exact (ran_o (by decide) (by omega)).trans hk) ?_
  refine x_iload_n h dX3_tells_49 rfl ?_
  refine x_callVEi h (As := [.int _, .int _, .int _]) (t_oB_3_3 l G n hn _ _ q b x (t + 1) (by rw [eJ38]; exact ran_n ht) (by rw [eJ38]; exact (ran_o (by decide) (by omega)).trans hk) hb (by omega)) m_X3_360 (mlt hn rfl) rfl dX3_tells_50 ⟨by omega, by decide⟩ ⟨by decide, by decide⟩ rfl (Nat.le_of_ble_eq_true rfl) ?_
  refine x_nmI (fun J50 eJ50 => ?_)
  refine x_nmi (fun v53 ev53 => ?_)
  refine x_istore h dX3_tells_53 (by decide) [some (.ref (xb G + 70)), some (.int b), some (.int 0), some (.int x), some (.int v53)] rfl ?_
  refine x_iload h dX3_tells_55 rfl ?_
  refine x_aload_n h dX3_tells_57 rfl ?_
  refine x_iload_n h dX3_tells_58 rfl ?_
  refine x_aload_n h dX3_tells_59 rfl ?_
  refine x_getr h (j := 88) g_X3_70 (mlt hn rfl) rfl (by decide) rfl dX3_tells_60 ?_
  refine x_iload_n h dX3_tells_63 rfl ?_
  refine x_iald h (mlt hn rfl) rfl hb _ rfl dX3_tells_64 ?_
  refine x_eqi (3) (by rw [eJ50, rans_o (by decide) (by omega), eJ38]; exact (ran_o (by decide) (by omega)).trans hk) ?_
  refine x_iconst h dX3_tells_65 (1) rfl ?_
  refine x_callVEi h (As := [.int _, .int _, .int _]) (t_pB_3_3 l G n hn _ _ q b 1 (t + 1 + 4) (by rw [eJ50]; exact rans_n [41, 30, 10, 1] (by rw [eJ38]; exact ran_n ht)) (by rw [eJ50, rans_o (by decide) (by omega), eJ38]; exact (ran_o (by decide) (by omega)).trans hk) hb (by omega)) m_X3_363 (mlt hn rfl) rfl dX3_tells_66 ⟨by omega, by decide⟩ ⟨by decide, by decide⟩ rfl (Nat.le_of_ble_eq_true rfl) ?_
  refine x_nmI (fun J66 eJ66 => ?_)
  refine x_isub h dX3_tells_69 ?_
  exact x_iret h dX3_tells_70 rfl (xpE.to (by subst_vars; rfl) (by subst_vars; rfl) rfl rfl)
set_option maxHeartbeats 4000000 in
theorem t_tB_3_2 (l : Launch) (G : xG_T) (n : Nat) (hn : 103 ≤ n) (I : xI_T) (L : xL_T) (q : Nat) (b x : Int32) (t : Nat) (ht : I 70 33 = nI t) (hk : I 88 (ix b) = 3) (hb : vp_in b 50) (h9 : t + 7 ≤ 900) : CM l (q + 8) yX3_tells cX3_tells 5 (some .int) G n [.ref (xb G + 70), .int b, .int 2, .int x] I L (some (.int ((-(((x + 1) + b) * 2)) - ((1 ^^^ b) * 3)))) (m_rans [2, 41, 30, 10, 1, 40, 11] I) (L) := by
  refine Cg.intro (cls := RX3) (pad := 1) (lv := [some (.ref (xb G + 70)), some (.int b), some (.int 2), some (.int x), none]) rfl (by decide) (Nat.le_of_ble_eq_true rfl) rfl (fun Θ h => ?_)
  refine x_iload_n h dX3_tells_0 rfl ?_
  refine x_look h 103 dX3_tells_1 (by decide) rfl rfl ?_
  refine x_aload_n h dX3_tells_103 rfl ?_
  refine x_iload_n h dX3_tells_104 rfl ?_
  refine x_iload_n h dX3_tells_105 rfl ?_
  refine x_callSEi h (As := [.int _]) (t_above l G n hn _ _ _ ) m_X3_357 dX3_tells_106 ⟨by omega, by decide⟩ ⟨by decide, by decide⟩ rfl (Nat.le_of_ble_eq_true rfl) ?_
  refine x_eqi (0) rfl ?_
  refine x_iload_n h dX3_tells_109 rfl ?_
  refine x_callVEi h (As := [.int _, .int _, .int _]) (t_tB_3_0 l G n hn _ _ q b x t ht hk hb (by omega)) m_X3_366 (mlt hn rfl) rfl dX3_tells_110 ⟨by omega, by decide⟩ ⟨by decide, by decide⟩ rfl (Nat.le_of_ble_eq_true rfl) ?_
  refine x_nmI (fun J110 eJ110 => ?_)
  exact x_iret h dX3_tells_113 rfl (xpE.to (by subst_vars; rfl) (by subst_vars; rfl) rfl rfl)
set_option maxHeartbeats 4000000 in
theorem t_tB_3_3 (l : Launch) (G : xG_T) (n : Nat) (hn : 103 ≤ n) (I : xI_T) (L : xL_T) (q : Nat) (b x : Int32) (t : Nat) (ht : I 70 33 = nI t) (hk : I 88 (ix b) = 3) (hb : vp_in b 50) (h9 : t + 7 ≤ 900) : CM l (q + 9) yX3_tells cX3_tells 5 (some .int) G n [.ref (xb G + 70), .int b, .int 3, .int x] I L (some (.int ((-(((x + 1) + b) * 2)) - ((1 ^^^ b) * 3)))) (m_rans [2, 41, 30, 10, 1, 40, 11] I) (L) := by
  refine Cg.intro (cls := RX3) (pad := 1) (lv := [some (.ref (xb G + 70)), some (.int b), some (.int 3), some (.int x), none]) rfl (by decide) (Nat.le_of_ble_eq_true rfl) rfl (fun Θ h => ?_)
  refine x_iload_n h dX3_tells_0 rfl ?_
  refine x_look h 103 dX3_tells_1 (by decide) rfl rfl ?_
  refine x_aload_n h dX3_tells_103 rfl ?_
  refine x_iload_n h dX3_tells_104 rfl ?_
  refine x_iload_n h dX3_tells_105 rfl ?_
  refine x_callSEi h (As := [.int _]) (t_above l G n hn _ _ _ ) m_X3_357 dX3_tells_106 ⟨by omega, by decide⟩ ⟨by decide, by decide⟩ rfl (Nat.le_of_ble_eq_true rfl) ?_
  refine x_eqi (2) rfl ?_
  refine x_iload_n h dX3_tells_109 rfl ?_
  refine x_callVEi h (As := [.int _, .int _, .int _]) (t_tB_3_2 l G n hn _ _ q b x t ht hk hb (by omega)) m_X3_366 (mlt hn rfl) rfl dX3_tells_110 ⟨by omega, by decide⟩ ⟨by decide, by decide⟩ rfl (Nat.le_of_ble_eq_true rfl) ?_
  refine x_nmI (fun J110 eJ110 => ?_)
  exact x_iret h dX3_tells_113 rfl (xpE.to (by subst_vars; rfl) (by subst_vars; rfl) rfl rfl)
set_option maxHeartbeats 4000000 in
theorem t_tB_4_0 (l : Launch) (G : xG_T) (n : Nat) (hn : 103 ≤ n) (I : xI_T) (L : xL_T) (q : Nat) (b x : Int32) (t : Nat) (ht : I 70 33 = nI t) (hk : I 88 (ix b) = 4) (hb : vp_in b 50) (h9 : t + 8 ≤ 900) : CM l (q + 7) yX3_tells cX3_tells 5 (some .int) G n [.ref (xb G + 70), .int b, .int 0, .int x] I L (some (.int ((((x + b) + 3) * 2) - ((1 ^^^ b) - ((2 + b) + 3))))) (m_rans [2, 10, 20, 1, 50, 11, 20, 1] I) (L) := by
  refine Cg.intro (cls := RX3) (pad := 1) (lv := [some (.ref (xb G + 70)), some (.int b), some (.int 0), some (.int x), none]) rfl (by decide) (Nat.le_of_ble_eq_true rfl) rfl (fun Θ h => ?_)
  refine x_iload_n h dX3_tells_0 rfl ?_
  refine x_look h 36 dX3_tells_1 (by decide) rfl rfl ?_
  refine x_aload_n h dX3_tells_36 rfl ?_
  refine x_iconst h dX3_tells_37 (2) rfl ?_
  refine x_callVEv h (As := [.int _]) (t_ran l G n hn _ _ _ t ht (by omega)) m_X3_351 (mlt hn rfl) rfl dX3_tells_38 ⟨by omega, by decide⟩ ⟨by decide, by decide⟩ rfl (Nat.le_of_ble_eq_true rfl) ?_
  refine x_nmI (fun J38 eJ38 => ?_)
  refine x_aload_n h dX3_tells_41 rfl ?_
  refine x_iload_n h dX3_tells_42 rfl ?_
  refine x_aload_n h dX3_tells_43 rfl ?_
  refine x_getr h (j := 88) g_X3_70 (mlt hn rfl) rfl (by decide) rfl dX3_tells_44 ?_
  refine x_iload_n h dX3_tells_47 rfl ?_
  refine x_iald h (mlt hn rfl) rfl hb _ rfl dX3_tells_48 ?_
  refine x_eqi (4) (by rw [eJ38]; exact (ran_o (by decide) (by omega)).trans hk) ?_
  refine x_iload_n h dX3_tells_49 rfl ?_
  refine x_callVEi h (As := [.int _, .int _, .int _]) (t_oB_4_4 l G n hn _ _ q b x (t + 1) (by rw [eJ38]; exact ran_n ht) (by rw [eJ38]; exact (ran_o (by decide) (by omega)).trans hk) hb (by omega)) m_X3_360 (mlt hn rfl) rfl dX3_tells_50 ⟨by omega, by decide⟩ ⟨by decide, by decide⟩ rfl (Nat.le_of_ble_eq_true rfl) ?_
  refine x_nmI (fun J50 eJ50 => ?_)
  refine x_nmi (fun v53 ev53 => ?_)
  refine x_istore h dX3_tells_53 (by decide) [some (.ref (xb G + 70)), some (.int b), some (.int 0), some (.int x), some (.int v53)] rfl ?_
  refine x_iload h dX3_tells_55 rfl ?_
  refine x_aload_n h dX3_tells_57 rfl ?_
  refine x_iload_n h dX3_tells_58 rfl ?_
  refine x_aload_n h dX3_tells_59 rfl ?_
  refine x_getr h (j := 88) g_X3_70 (mlt hn rfl) rfl (by decide) rfl dX3_tells_60 ?_
  refine x_iload_n h dX3_tells_63 rfl ?_
  refine x_iald h (mlt hn rfl) rfl hb _ rfl dX3_tells_64 ?_
  refine x_eqi (4) (by rw [eJ50, rans_o (by decide) (by omega), eJ38]; exact (ran_o (by decide) (by omega)).trans hk) ?_
  refine x_iconst h dX3_tells_65 (1) rfl ?_
  refine x_callVEi h (As := [.int _, .int _, .int _]) (t_pB_4_4 l G n hn _ _ q b 1 (t + 1 + 3) (by rw [eJ50]; exact rans_n [10, 20, 1] (by rw [eJ38]; exact ran_n ht)) (by rw [eJ50, rans_o (by decide) (by omega), eJ38]; exact (ran_o (by decide) (by omega)).trans hk) hb (by omega)) m_X3_363 (mlt hn rfl) rfl dX3_tells_66 ⟨by omega, by decide⟩ ⟨by decide, by decide⟩ rfl (Nat.le_of_ble_eq_true rfl) ?_
  refine x_nmI (fun J66 eJ66 => ?_)
  refine x_isub h dX3_tells_69 ?_
  exact x_iret h dX3_tells_70 rfl (xpE.to (by subst_vars; rfl) (by subst_vars; rfl) rfl rfl)
set_option maxHeartbeats 4000000 in
theorem t_tB_4_1 (l : Launch) (G : xG_T) (n : Nat) (hn : 103 ≤ n) (I : xI_T) (L : xL_T) (q : Nat) (b x : Int32) (t : Nat) (ht : I 70 33 = nI t) (hk : I 88 (ix b) = 4) (hb : vp_in b 50) (h9 : t + 8 ≤ 900) : CM l (q + 8) yX3_tells cX3_tells 5 (some .int) G n [.ref (xb G + 70), .int b, .int 1, .int x] I L (some (.int ((((x + b) + 3) * 2) - ((1 ^^^ b) - ((2 + b) + 3))))) (m_rans [2, 10, 20, 1, 50, 11, 20, 1] I) (L) := by
  refine Cg.intro (cls := RX3) (pad := 1) (lv := [some (.ref (xb G + 70)), some (.int b), some (.int 1), some (.int x), none]) rfl (by decide) (Nat.le_of_ble_eq_true rfl) rfl (fun Θ h => ?_)
  refine x_iload_n h dX3_tells_0 rfl ?_
  refine x_look h 103 dX3_tells_1 (by decide) rfl rfl ?_
  refine x_aload_n h dX3_tells_103 rfl ?_
  refine x_iload_n h dX3_tells_104 rfl ?_
  refine x_iload_n h dX3_tells_105 rfl ?_
  refine x_callSEi h (As := [.int _]) (t_above l G n hn _ _ _ ) m_X3_357 dX3_tells_106 ⟨by omega, by decide⟩ ⟨by decide, by decide⟩ rfl (Nat.le_of_ble_eq_true rfl) ?_
  refine x_eqi (0) rfl ?_
  refine x_iload_n h dX3_tells_109 rfl ?_
  refine x_callVEi h (As := [.int _, .int _, .int _]) (t_tB_4_0 l G n hn _ _ q b x t ht hk hb (by omega)) m_X3_366 (mlt hn rfl) rfl dX3_tells_110 ⟨by omega, by decide⟩ ⟨by decide, by decide⟩ rfl (Nat.le_of_ble_eq_true rfl) ?_
  refine x_nmI (fun J110 eJ110 => ?_)
  exact x_iret h dX3_tells_113 rfl (xpE.to (by subst_vars; rfl) (by subst_vars; rfl) rfl rfl)
set_option maxHeartbeats 4000000 in
theorem t_tB_4_4 (l : Launch) (G : xG_T) (n : Nat) (hn : 103 ≤ n) (I : xI_T) (L : xL_T) (q : Nat) (b x : Int32) (t : Nat) (ht : I 70 33 = nI t) (hk : I 88 (ix b) = 4) (hb : vp_in b 50) (h9 : t + 8 ≤ 900) : CM l (q + 9) yX3_tells cX3_tells 5 (some .int) G n [.ref (xb G + 70), .int b, .int 4, .int x] I L (some (.int ((((x + b) + 3) * 2) - ((1 ^^^ b) - ((2 + b) + 3))))) (m_rans [2, 10, 20, 1, 50, 11, 20, 1] I) (L) := by
  refine Cg.intro (cls := RX3) (pad := 1) (lv := [some (.ref (xb G + 70)), some (.int b), some (.int 4), some (.int x), none]) rfl (by decide) (Nat.le_of_ble_eq_true rfl) rfl (fun Θ h => ?_)
  refine x_iload_n h dX3_tells_0 rfl ?_
  refine x_look h 103 dX3_tells_1 (by decide) rfl rfl ?_
  refine x_aload_n h dX3_tells_103 rfl ?_
  refine x_iload_n h dX3_tells_104 rfl ?_
  refine x_iload_n h dX3_tells_105 rfl ?_
  refine x_callSEi h (As := [.int _]) (t_above l G n hn _ _ _ ) m_X3_357 dX3_tells_106 ⟨by omega, by decide⟩ ⟨by decide, by decide⟩ rfl (Nat.le_of_ble_eq_true rfl) ?_
  refine x_eqi (1) rfl ?_
  refine x_iload_n h dX3_tells_109 rfl ?_
  refine x_callVEi h (As := [.int _, .int _, .int _]) (t_tB_4_1 l G n hn _ _ q b x t ht hk hb (by omega)) m_X3_366 (mlt hn rfl) rfl dX3_tells_110 ⟨by omega, by decide⟩ ⟨by decide, by decide⟩ rfl (Nat.le_of_ble_eq_true rfl) ?_
  refine x_nmI (fun J110 eJ110 => ?_)
  exact x_iret h dX3_tells_113 rfl (xpE.to (by subst_vars; rfl) (by subst_vars; rfl) rfl rfl)
set_option maxHeartbeats 4000000 in
theorem t_tB_5_0 (l : Launch) (G : xG_T) (n : Nat) (hn : 103 ≤ n) (I : xI_T) (L : xL_T) (q : Nat) (b x : Int32) (t : Nat) (ht : I 70 33 = nI t) (hk : I 88 (ix b) = 5) (hb : vp_in b 50) (h9 : t + 7 ≤ 900) : CM l (q + 9) yX3_tells cX3_tells 5 (some .int) G n [.ref (xb G + 70), .int b, .int 0, .int x] I L (some (.int ((-(((x + 1) + b) * 2)) - ((1 ^^^ b) * 3)))) (m_rans [2, 41, 30, 10, 1, 40, 11] I) (L) := by
  refine Cg.intro (cls := RX3) (pad := 1) (lv := [some (.ref (xb G + 70)), some (.int b), some (.int 0), some (.int x), none]) rfl (by decide) (Nat.le_of_ble_eq_true rfl) rfl (fun Θ h => ?_)
  refine x_iload_n h dX3_tells_0 rfl ?_
  refine x_look h 36 dX3_tells_1 (by decide) rfl rfl ?_
  refine x_aload_n h dX3_tells_36 rfl ?_
  refine x_iconst h dX3_tells_37 (2) rfl ?_
  refine x_callVEv h (As := [.int _]) (t_ran l G n hn _ _ _ t ht (by omega)) m_X3_351 (mlt hn rfl) rfl dX3_tells_38 ⟨by omega, by decide⟩ ⟨by decide, by decide⟩ rfl (Nat.le_of_ble_eq_true rfl) ?_
  refine x_nmI (fun J38 eJ38 => ?_)
  refine x_aload_n h dX3_tells_41 rfl ?_
  refine x_iload_n h dX3_tells_42 rfl ?_
  refine x_aload_n h dX3_tells_43 rfl ?_
  refine x_getr h (j := 88) g_X3_70 (mlt hn rfl) rfl (by decide) rfl dX3_tells_44 ?_
  refine x_iload_n h dX3_tells_47 rfl ?_
  refine x_iald h (mlt hn rfl) rfl hb _ rfl dX3_tells_48 ?_
  refine x_eqi (5) (by rw [eJ38]; exact (ran_o (by decide) (by omega)).trans hk) ?_
  refine x_iload_n h dX3_tells_49 rfl ?_
  refine x_callVEi h (As := [.int _, .int _, .int _]) (t_oB_5_5 l G n hn _ _ q b x (t + 1) (by rw [eJ38]; exact ran_n ht) (by rw [eJ38]; exact (ran_o (by decide) (by omega)).trans hk) hb (by omega)) m_X3_360 (mlt hn rfl) rfl dX3_tells_50 ⟨by omega, by decide⟩ ⟨by decide, by decide⟩ rfl (Nat.le_of_ble_eq_true rfl) ?_
  refine x_nmI (fun J50 eJ50 => ?_)
  refine x_nmi (fun v53 ev53 => ?_)
  refine x_istore h dX3_tells_53 (by decide) [some (.ref (xb G + 70)), some (.int b), some (.int 0), some (.int x), some (.int v53)] rfl ?_
  refine x_iload h dX3_tells_55 rfl ?_
  refine x_aload_n h dX3_tells_57 rfl ?_
  refine x_iload_n h dX3_tells_58 rfl ?_
  refine x_aload_n h dX3_tells_59 rfl ?_
  refine x_getr h (j := 88) g_X3_70 (mlt hn rfl) rfl (by decide) rfl dX3_tells_60 ?_
  refine x_iload_n h dX3_tells_63 rfl ?_
  refine x_iald h (mlt hn rfl) rfl hb _ rfl dX3_tells_64 ?_
  refine x_eqi (5) (by rw [eJ50, rans_o (by decide) (by omega), eJ38]; exact (ran_o (by decide) (by omega)).trans hk) ?_
  refine x_iconst h dX3_tells_65 (1) rfl ?_
  refine x_callVEi h (As := [.int _, .int _, .int _]) (t_pB_5_5 l G n hn _ _ q b 1 (t + 1 + 4) (by rw [eJ50]; exact rans_n [41, 30, 10, 1] (by rw [eJ38]; exact ran_n ht)) (by rw [eJ50, rans_o (by decide) (by omega), eJ38]; exact (ran_o (by decide) (by omega)).trans hk) hb (by omega)) m_X3_363 (mlt hn rfl) rfl dX3_tells_66 ⟨by omega, by decide⟩ ⟨by decide, by decide⟩ rfl (Nat.le_of_ble_eq_true rfl) ?_
  refine x_nmI (fun J66 eJ66 => ?_)
  refine x_isub h dX3_tells_69 ?_
  exact x_iret h dX3_tells_70 rfl (xpE.to (by subst_vars; rfl) (by subst_vars; rfl) rfl rfl)
set_option maxHeartbeats 4000000 in
theorem t_tB_5_2 (l : Launch) (G : xG_T) (n : Nat) (hn : 103 ≤ n) (I : xI_T) (L : xL_T) (q : Nat) (b x : Int32) (t : Nat) (ht : I 70 33 = nI t) (hk : I 88 (ix b) = 5) (hb : vp_in b 50) (h9 : t + 7 ≤ 900) : CM l (q + 10) yX3_tells cX3_tells 5 (some .int) G n [.ref (xb G + 70), .int b, .int 2, .int x] I L (some (.int ((-(((x + 1) + b) * 2)) - ((1 ^^^ b) * 3)))) (m_rans [2, 41, 30, 10, 1, 40, 11] I) (L) := by
  refine Cg.intro (cls := RX3) (pad := 1) (lv := [some (.ref (xb G + 70)), some (.int b), some (.int 2), some (.int x), none]) rfl (by decide) (Nat.le_of_ble_eq_true rfl) rfl (fun Θ h => ?_)
  refine x_iload_n h dX3_tells_0 rfl ?_
  refine x_look h 103 dX3_tells_1 (by decide) rfl rfl ?_
  refine x_aload_n h dX3_tells_103 rfl ?_
  refine x_iload_n h dX3_tells_104 rfl ?_
  refine x_iload_n h dX3_tells_105 rfl ?_
  refine x_callSEi h (As := [.int _]) (t_above l G n hn _ _ _ ) m_X3_357 dX3_tells_106 ⟨by omega, by decide⟩ ⟨by decide, by decide⟩ rfl (Nat.le_of_ble_eq_true rfl) ?_
  refine x_eqi (0) rfl ?_
  refine x_iload_n h dX3_tells_109 rfl ?_
  refine x_callVEi h (As := [.int _, .int _, .int _]) (t_tB_5_0 l G n hn _ _ q b x t ht hk hb (by omega)) m_X3_366 (mlt hn rfl) rfl dX3_tells_110 ⟨by omega, by decide⟩ ⟨by decide, by decide⟩ rfl (Nat.le_of_ble_eq_true rfl) ?_
  refine x_nmI (fun J110 eJ110 => ?_)
  exact x_iret h dX3_tells_113 rfl (xpE.to (by subst_vars; rfl) (by subst_vars; rfl) rfl rfl)
set_option maxHeartbeats 4000000 in
theorem t_tB_5_3 (l : Launch) (G : xG_T) (n : Nat) (hn : 103 ≤ n) (I : xI_T) (L : xL_T) (q : Nat) (b x : Int32) (t : Nat) (ht : I 70 33 = nI t) (hk : I 88 (ix b) = 5) (hb : vp_in b 50) (h9 : t + 7 ≤ 900) : CM l (q + 11) yX3_tells cX3_tells 5 (some .int) G n [.ref (xb G + 70), .int b, .int 3, .int x] I L (some (.int ((-(((x + 1) + b) * 2)) - ((1 ^^^ b) * 3)))) (m_rans [2, 41, 30, 10, 1, 40, 11] I) (L) := by
  refine Cg.intro (cls := RX3) (pad := 1) (lv := [some (.ref (xb G + 70)), some (.int b), some (.int 3), some (.int x), none]) rfl (by decide) (Nat.le_of_ble_eq_true rfl) rfl (fun Θ h => ?_)
  refine x_iload_n h dX3_tells_0 rfl ?_
  refine x_look h 103 dX3_tells_1 (by decide) rfl rfl ?_
  refine x_aload_n h dX3_tells_103 rfl ?_
  refine x_iload_n h dX3_tells_104 rfl ?_
  refine x_iload_n h dX3_tells_105 rfl ?_
  refine x_callSEi h (As := [.int _]) (t_above l G n hn _ _ _ ) m_X3_357 dX3_tells_106 ⟨by omega, by decide⟩ ⟨by decide, by decide⟩ rfl (Nat.le_of_ble_eq_true rfl) ?_
  refine x_eqi (2) rfl ?_
  refine x_iload_n h dX3_tells_109 rfl ?_
  refine x_callVEi h (As := [.int _, .int _, .int _]) (t_tB_5_2 l G n hn _ _ q b x t ht hk hb (by omega)) m_X3_366 (mlt hn rfl) rfl dX3_tells_110 ⟨by omega, by decide⟩ ⟨by decide, by decide⟩ rfl (Nat.le_of_ble_eq_true rfl) ?_
  refine x_nmI (fun J110 eJ110 => ?_)
  exact x_iret h dX3_tells_113 rfl (xpE.to (by subst_vars; rfl) (by subst_vars; rfl) rfl rfl)
set_option maxHeartbeats 4000000 in
theorem t_tB_5_5 (l : Launch) (G : xG_T) (n : Nat) (hn : 103 ≤ n) (I : xI_T) (L : xL_T) (q : Nat) (b x : Int32) (t : Nat) (ht : I 70 33 = nI t) (hk : I 88 (ix b) = 5) (hb : vp_in b 50) (h9 : t + 8 ≤ 900) : CM l (q + 12) yX3_tells cX3_tells 5 (some .int) G n [.ref (xb G + 70), .int b, .int 5, .int x] I L (some (.int (((-(((x + 1) + b) * 2)) - ((1 ^^^ b) * 3)) ^^^ 5))) (m_rans [60, 2, 41, 30, 10, 1, 40, 11] I) (L) := by
  refine Cg.intro (cls := RX3) (pad := 1) (lv := [some (.ref (xb G + 70)), some (.int b), some (.int 5), some (.int x), none]) rfl (by decide) (Nat.le_of_ble_eq_true rfl) rfl (fun Θ h => ?_)
  refine x_iload_n h dX3_tells_0 rfl ?_
  refine x_look h 71 dX3_tells_1 (by decide) rfl rfl ?_
  refine x_aload_n h dX3_tells_71 rfl ?_
  refine x_bipush h dX3_tells_72 (60) rfl ?_
  refine x_callVEv h (As := [.int _]) (t_ran l G n hn _ _ _ t ht (by omega)) m_X3_351 (mlt hn rfl) rfl dX3_tells_74 ⟨by omega, by decide⟩ ⟨by decide, by decide⟩ rfl (Nat.le_of_ble_eq_true rfl) ?_
  refine x_nmI (fun J74 eJ74 => ?_)
  refine x_aload_n h dX3_tells_77 rfl ?_
  refine x_iload_n h dX3_tells_78 rfl ?_
  refine x_iconst h dX3_tells_79 (3) rfl ?_
  refine x_iload_n h dX3_tells_80 rfl ?_
  refine x_callVEi h (As := [.int _, .int _, .int _]) (t_tB_5_3 l G n hn _ _ q b x (t + 1) (by rw [eJ74]; exact ran_n ht) (by rw [eJ74]; exact (ran_o (by decide) (by omega)).trans hk) hb (by omega)) m_X3_366 (mlt hn rfl) rfl dX3_tells_81 ⟨by omega, by decide⟩ ⟨by decide, by decide⟩ rfl (Nat.le_of_ble_eq_true rfl) ?_
  refine x_nmI (fun J81 eJ81 => ?_)
  refine x_iconst h dX3_tells_84 (5) rfl ?_
  refine x_ixor h dX3_tells_85 ?_
  exact x_iret h dX3_tells_86 rfl (xpE.to (by subst_vars; rfl) (by subst_vars; rfl) rfl rfl)
set_option maxHeartbeats 4000000 in
theorem t_tB_6_0 (l : Launch) (G : xG_T) (n : Nat) (hn : 103 ≤ n) (I : xI_T) (L : xL_T) (q : Nat) (b x : Int32) (t : Nat) (ht : I 70 33 = nI t) (hk : I 88 (ix b) = 6) (hb : vp_in b 50) (h9 : t + 5 ≤ 900) : CM l (q + 5) yX3_tells cX3_tells 5 (some .int) G n [.ref (xb G + 70), .int b, .int 0, .int x] I L (some (.int ((((x + b) * 2) * 2) - (1 ^^^ b)))) (m_rans [2, 10, 70, 1, 11] I) (L) := by
  refine Cg.intro (cls := RX3) (pad := 1) (lv := [some (.ref (xb G + 70)), some (.int b), some (.int 0), some (.int x), none]) rfl (by decide) (Nat.le_of_ble_eq_true rfl) rfl (fun Θ h => ?_)
  refine x_iload_n h dX3_tells_0 rfl ?_
  refine x_look h 36 dX3_tells_1 (by decide) rfl rfl ?_
  refine x_aload_n h dX3_tells_36 rfl ?_
  refine x_iconst h dX3_tells_37 (2) rfl ?_
  refine x_callVEv h (As := [.int _]) (t_ran l G n hn _ _ _ t ht (by omega)) m_X3_351 (mlt hn rfl) rfl dX3_tells_38 ⟨by omega, by decide⟩ ⟨by decide, by decide⟩ rfl (Nat.le_of_ble_eq_true rfl) ?_
  refine x_nmI (fun J38 eJ38 => ?_)
  refine x_aload_n h dX3_tells_41 rfl ?_
  refine x_iload_n h dX3_tells_42 rfl ?_
  refine x_aload_n h dX3_tells_43 rfl ?_
  refine x_getr h (j := 88) g_X3_70 (mlt hn rfl) rfl (by decide) rfl dX3_tells_44 ?_
  refine x_iload_n h dX3_tells_47 rfl ?_
  refine x_iald h (mlt hn rfl) rfl hb _ rfl dX3_tells_48 ?_
  refine x_eqi (6) (by rw [eJ38]; exact (ran_o (by decide) (by omega)).trans hk) ?_
  refine x_iload_n h dX3_tells_49 rfl ?_
  refine x_callVEi h (As := [.int _, .int _, .int _]) (t_oB_6_6 l G n hn _ _ q b x (t + 1) (by rw [eJ38]; exact ran_n ht) (by rw [eJ38]; exact (ran_o (by decide) (by omega)).trans hk) hb (by omega)) m_X3_360 (mlt hn rfl) rfl dX3_tells_50 ⟨by omega, by decide⟩ ⟨by decide, by decide⟩ rfl (Nat.le_of_ble_eq_true rfl) ?_
  refine x_nmI (fun J50 eJ50 => ?_)
  refine x_nmi (fun v53 ev53 => ?_)
  refine x_istore h dX3_tells_53 (by decide) [some (.ref (xb G + 70)), some (.int b), some (.int 0), some (.int x), some (.int v53)] rfl ?_
  refine x_iload h dX3_tells_55 rfl ?_
  refine x_aload_n h dX3_tells_57 rfl ?_
  refine x_iload_n h dX3_tells_58 rfl ?_
  refine x_aload_n h dX3_tells_59 rfl ?_
  refine x_getr h (j := 88) g_X3_70 (mlt hn rfl) rfl (by decide) rfl dX3_tells_60 ?_
  refine x_iload_n h dX3_tells_63 rfl ?_
  refine x_iald h (mlt hn rfl) rfl hb _ rfl dX3_tells_64 ?_
  refine x_eqi (6) (by rw [eJ50, rans_o (by decide) (by omega), eJ38]; exact (ran_o (by decide) (by omega)).trans hk) ?_
  refine x_iconst h dX3_tells_65 (1) rfl ?_
  refine x_callVEi h (As := [.int _, .int _, .int _]) (t_pB_6_6 l G n hn _ _ q b 1 (t + 1 + 3) (by rw [eJ50]; exact rans_n [10, 70, 1] (by rw [eJ38]; exact ran_n ht)) (by rw [eJ50, rans_o (by decide) (by omega), eJ38]; exact (ran_o (by decide) (by omega)).trans hk) hb (by omega)) m_X3_363 (mlt hn rfl) rfl dX3_tells_66 ⟨by omega, by decide⟩ ⟨by decide, by decide⟩ rfl (Nat.le_of_ble_eq_true rfl) ?_
  refine x_nmI (fun J66 eJ66 => ?_)
  refine x_isub h dX3_tells_69 ?_
  exact x_iret h dX3_tells_70 rfl (xpE.to (by subst_vars; rfl) (by subst_vars; rfl) rfl rfl)
set_option maxHeartbeats 4000000 in
theorem t_tB_6_6 (l : Launch) (G : xG_T) (n : Nat) (hn : 103 ≤ n) (I : xI_T) (L : xL_T) (q : Nat) (b x : Int32) (t : Nat) (ht : I 70 33 = nI t) (hk : I 88 (ix b) = 6) (hb : vp_in b 50) (h9 : t + 5 ≤ 900) : CM l (q + 6) yX3_tells cX3_tells 5 (some .int) G n [.ref (xb G + 70), .int b, .int 6, .int x] I L (some (.int ((((x + b) * 2) * 2) - (1 ^^^ b)))) (m_rans [2, 10, 70, 1, 11] I) (L) := by
  refine Cg.intro (cls := RX3) (pad := 1) (lv := [some (.ref (xb G + 70)), some (.int b), some (.int 6), some (.int x), none]) rfl (by decide) (Nat.le_of_ble_eq_true rfl) rfl (fun Θ h => ?_)
  refine x_iload_n h dX3_tells_0 rfl ?_
  refine x_look h 103 dX3_tells_1 (by decide) rfl rfl ?_
  refine x_aload_n h dX3_tells_103 rfl ?_
  refine x_iload_n h dX3_tells_104 rfl ?_
  refine x_iload_n h dX3_tells_105 rfl ?_
  refine x_callSEi h (As := [.int _]) (t_above l G n hn _ _ _ ) m_X3_357 dX3_tells_106 ⟨by omega, by decide⟩ ⟨by decide, by decide⟩ rfl (Nat.le_of_ble_eq_true rfl) ?_
  refine x_eqi (0) rfl ?_
  refine x_iload_n h dX3_tells_109 rfl ?_
  refine x_callVEi h (As := [.int _, .int _, .int _]) (t_tB_6_0 l G n hn _ _ q b x t ht hk hb (by omega)) m_X3_366 (mlt hn rfl) rfl dX3_tells_110 ⟨by omega, by decide⟩ ⟨by decide, by decide⟩ rfl (Nat.le_of_ble_eq_true rfl) ?_
  refine x_nmI (fun J110 eJ110 => ?_)
  exact x_iret h dX3_tells_113 rfl (xpE.to (by subst_vars; rfl) (by subst_vars; rfl) rfl rfl)
set_option maxHeartbeats 4000000 in
theorem t_tB_7_0 (l : Launch) (G : xG_T) (n : Nat) (hn : 103 ≤ n) (I : xI_T) (L : xL_T) (q : Nat) (b x : Int32) (t : Nat) (ht : I 70 33 = nI t) (hk : I 88 (ix b) = 7) (hb : vp_in b 50) (h9 : t + 13 ≤ 900) : CM l (q + 9) yX3_tells cX3_tells 5 (some .int) G n [.ref (xb G + 70), .int b, .int 0, .int x] I L (some (.int (((((x + b) + 3) * 2) + ((2 ^^^ b) - ((2 + b) + 3))) - ((1 ^^^ b) - ((2 + b) + 3))))) (m_rans [2, 80, 10, 20, 1, 50, 11, 20, 1, 50, 11, 20, 1] I) (L) := by
  refine Cg.intro (cls := RX3) (pad := 1) (lv := [some (.ref (xb G + 70)), some (.int b), some (.int 0), some (.int x), none]) rfl (by decide) (Nat.le_of_ble_eq_true rfl) rfl (fun Θ h => ?_)
  refine x_iload_n h dX3_tells_0 rfl ?_
  refine x_look h 36 dX3_tells_1 (by decide) rfl rfl ?_
  refine x_aload_n h dX3_tells_36 rfl ?_
  refine x_iconst h dX3_tells_37 (2) rfl ?_
  refine x_callVEv h (As := [.int _]) (t_ran l G n hn _ _ _ t ht (by omega)) m_X3_351 (mlt hn rfl) rfl dX3_tells_38 ⟨by omega, by decide⟩ ⟨by decide, by decide⟩ rfl (Nat.le_of_ble_eq_true rfl) ?_
  refine x_nmI (fun J38 eJ38 => ?_)
  refine x_aload_n h dX3_tells_41 rfl ?_
  refine x_iload_n h dX3_tells_42 rfl ?_
  refine x_aload_n h dX3_tells_43 rfl ?_
  refine x_getr h (j := 88) g_X3_70 (mlt hn rfl) rfl (by decide) rfl dX3_tells_44 ?_
  refine x_iload_n h dX3_tells_47 rfl ?_
  refine x_iald h (mlt hn rfl) rfl hb _ rfl dX3_tells_48 ?_
  refine x_eqi (7) (by rw [eJ38]; exact (ran_o (by decide) (by omega)).trans hk) ?_
  refine x_iload_n h dX3_tells_49 rfl ?_
  refine x_callVEi h (As := [.int _, .int _, .int _]) (t_oB_7_7 l G n hn _ _ q b x (t + 1) (by rw [eJ38]; exact ran_n ht) (by rw [eJ38]; exact (ran_o (by decide) (by omega)).trans hk) hb (by omega)) m_X3_360 (mlt hn rfl) rfl dX3_tells_50 ⟨by omega, by decide⟩ ⟨by decide, by decide⟩ rfl (Nat.le_of_ble_eq_true rfl) ?_
  refine x_nmI (fun J50 eJ50 => ?_)
  refine x_nmi (fun v53 ev53 => ?_)
  refine x_istore h dX3_tells_53 (by decide) [some (.ref (xb G + 70)), some (.int b), some (.int 0), some (.int x), some (.int v53)] rfl ?_
  refine x_iload h dX3_tells_55 rfl ?_
  refine x_aload_n h dX3_tells_57 rfl ?_
  refine x_iload_n h dX3_tells_58 rfl ?_
  refine x_aload_n h dX3_tells_59 rfl ?_
  refine x_getr h (j := 88) g_X3_70 (mlt hn rfl) rfl (by decide) rfl dX3_tells_60 ?_
  refine x_iload_n h dX3_tells_63 rfl ?_
  refine x_iald h (mlt hn rfl) rfl hb _ rfl dX3_tells_64 ?_
  refine x_eqi (7) (by rw [eJ50, rans_o (by decide) (by omega), eJ38]; exact (ran_o (by decide) (by omega)).trans hk) ?_
  refine x_iconst h dX3_tells_65 (1) rfl ?_
  refine x_callVEi h (As := [.int _, .int _, .int _]) (t_pB_7_7 l G n hn _ _ q b 1 (t + 1 + 8) (by rw [eJ50]; exact rans_n [80, 10, 20, 1, 50, 11, 20, 1] (by rw [eJ38]; exact ran_n ht)) (by rw [eJ50, rans_o (by decide) (by omega), eJ38]; exact (ran_o (by decide) (by omega)).trans hk) hb (by omega)) m_X3_363 (mlt hn rfl) rfl dX3_tells_66 ⟨by omega, by decide⟩ ⟨by decide, by decide⟩ rfl (Nat.le_of_ble_eq_true rfl) ?_
  refine x_nmI (fun J66 eJ66 => ?_)
  refine x_isub h dX3_tells_69 ?_
  exact x_iret h dX3_tells_70 rfl (xpE.to (by subst_vars; rfl) (by subst_vars; rfl) rfl rfl)
set_option maxHeartbeats 4000000 in
theorem t_tB_7_1 (l : Launch) (G : xG_T) (n : Nat) (hn : 103 ≤ n) (I : xI_T) (L : xL_T) (q : Nat) (b x : Int32) (t : Nat) (ht : I 70 33 = nI t) (hk : I 88 (ix b) = 7) (hb : vp_in b 50) (h9 : t + 13 ≤ 900) : CM l (q + 10) yX3_tells cX3_tells 5 (some .int) G n [.ref (xb G + 70), .int b, .int 1, .int x] I L (some (.int (((((x + b) + 3) * 2) + ((2 ^^^ b) - ((2 + b) + 3))) - ((1 ^^^ b) - ((2 + b) + 3))))) (m_rans [2, 80, 10, 20, 1, 50, 11, 20, 1, 50, 11, 20, 1] I) (L) := by
  refine Cg.intro (cls := RX3) (pad := 1) (lv := [some (.ref (xb G + 70)), some (.int b), some (.int 1), some (.int x), none]) rfl (by decide) (Nat.le_of_ble_eq_true rfl) rfl (fun Θ h => ?_)
  refine x_iload_n h dX3_tells_0 rfl ?_
  refine x_look h 103 dX3_tells_1 (by decide) rfl rfl ?_
  refine x_aload_n h dX3_tells_103 rfl ?_
  refine x_iload_n h dX3_tells_104 rfl ?_
  refine x_iload_n h dX3_tells_105 rfl ?_
  refine x_callSEi h (As := [.int _]) (t_above l G n hn _ _ _ ) m_X3_357 dX3_tells_106 ⟨by omega, by decide⟩ ⟨by decide, by decide⟩ rfl (Nat.le_of_ble_eq_true rfl) ?_
  refine x_eqi (0) rfl ?_
  refine x_iload_n h dX3_tells_109 rfl ?_
  refine x_callVEi h (As := [.int _, .int _, .int _]) (t_tB_7_0 l G n hn _ _ q b x t ht hk hb (by omega)) m_X3_366 (mlt hn rfl) rfl dX3_tells_110 ⟨by omega, by decide⟩ ⟨by decide, by decide⟩ rfl (Nat.le_of_ble_eq_true rfl) ?_
  refine x_nmI (fun J110 eJ110 => ?_)
  exact x_iret h dX3_tells_113 rfl (xpE.to (by subst_vars; rfl) (by subst_vars; rfl) rfl rfl)
set_option maxHeartbeats 4000000 in
theorem t_tB_7_4 (l : Launch) (G : xG_T) (n : Nat) (hn : 103 ≤ n) (I : xI_T) (L : xL_T) (q : Nat) (b x : Int32) (t : Nat) (ht : I 70 33 = nI t) (hk : I 88 (ix b) = 7) (hb : vp_in b 50) (h9 : t + 13 ≤ 900) : CM l (q + 11) yX3_tells cX3_tells 5 (some .int) G n [.ref (xb G + 70), .int b, .int 4, .int x] I L (some (.int (((((x + b) + 3) * 2) + ((2 ^^^ b) - ((2 + b) + 3))) - ((1 ^^^ b) - ((2 + b) + 3))))) (m_rans [2, 80, 10, 20, 1, 50, 11, 20, 1, 50, 11, 20, 1] I) (L) := by
  refine Cg.intro (cls := RX3) (pad := 1) (lv := [some (.ref (xb G + 70)), some (.int b), some (.int 4), some (.int x), none]) rfl (by decide) (Nat.le_of_ble_eq_true rfl) rfl (fun Θ h => ?_)
  refine x_iload_n h dX3_tells_0 rfl ?_
  refine x_look h 103 dX3_tells_1 (by decide) rfl rfl ?_
  refine x_aload_n h dX3_tells_103 rfl ?_
  refine x_iload_n h dX3_tells_104 rfl ?_
  refine x_iload_n h dX3_tells_105 rfl ?_
  refine x_callSEi h (As := [.int _]) (t_above l G n hn _ _ _ ) m_X3_357 dX3_tells_106 ⟨by omega, by decide⟩ ⟨by decide, by decide⟩ rfl (Nat.le_of_ble_eq_true rfl) ?_
  refine x_eqi (1) rfl ?_
  refine x_iload_n h dX3_tells_109 rfl ?_
  refine x_callVEi h (As := [.int _, .int _, .int _]) (t_tB_7_1 l G n hn _ _ q b x t ht hk hb (by omega)) m_X3_366 (mlt hn rfl) rfl dX3_tells_110 ⟨by omega, by decide⟩ ⟨by decide, by decide⟩ rfl (Nat.le_of_ble_eq_true rfl) ?_
  refine x_nmI (fun J110 eJ110 => ?_)
  exact x_iret h dX3_tells_113 rfl (xpE.to (by subst_vars; rfl) (by subst_vars; rfl) rfl rfl)
set_option maxHeartbeats 4000000 in
theorem t_tB_7_7 (l : Launch) (G : xG_T) (n : Nat) (hn : 103 ≤ n) (I : xI_T) (L : xL_T) (q : Nat) (b x : Int32) (t : Nat) (ht : I 70 33 = nI t) (hk : I 88 (ix b) = 7) (hb : vp_in b 50) (h9 : t + 14 ≤ 900) : CM l (q + 12) yX3_tells cX3_tells 5 (some .int) G n [.ref (xb G + 70), .int b, .int 7, .int x] I L (some (.int ((((((x + b) + 3) * 2) + ((2 ^^^ b) - ((2 + b) + 3))) - ((1 ^^^ b) - ((2 + b) + 3))) - 1))) (m_rans [81, 2, 80, 10, 20, 1, 50, 11, 20, 1, 50, 11, 20, 1] I) (L) := by
  refine Cg.intro (cls := RX3) (pad := 1) (lv := [some (.ref (xb G + 70)), some (.int b), some (.int 7), some (.int x), none]) rfl (by decide) (Nat.le_of_ble_eq_true rfl) rfl (fun Θ h => ?_)
  refine x_iload_n h dX3_tells_0 rfl ?_
  refine x_look h 87 dX3_tells_1 (by decide) rfl rfl ?_
  refine x_aload_n h dX3_tells_87 rfl ?_
  refine x_bipush h dX3_tells_88 (81) rfl ?_
  refine x_callVEv h (As := [.int _]) (t_ran l G n hn _ _ _ t ht (by omega)) m_X3_351 (mlt hn rfl) rfl dX3_tells_90 ⟨by omega, by decide⟩ ⟨by decide, by decide⟩ rfl (Nat.le_of_ble_eq_true rfl) ?_
  refine x_nmI (fun J90 eJ90 => ?_)
  refine x_aload_n h dX3_tells_93 rfl ?_
  refine x_iload_n h dX3_tells_94 rfl ?_
  refine x_iconst h dX3_tells_95 (4) rfl ?_
  refine x_iload_n h dX3_tells_96 rfl ?_
  refine x_callVEi h (As := [.int _, .int _, .int _]) (t_tB_7_4 l G n hn _ _ q b x (t + 1) (by rw [eJ90]; exact ran_n ht) (by rw [eJ90]; exact (ran_o (by decide) (by omega)).trans hk) hb (by omega)) m_X3_366 (mlt hn rfl) rfl dX3_tells_97 ⟨by omega, by decide⟩ ⟨by decide, by decide⟩ rfl (Nat.le_of_ble_eq_true rfl) ?_
  refine x_nmI (fun J97 eJ97 => ?_)
  refine x_iconst h dX3_tells_100 (1) rfl ?_
  refine x_isub h dX3_tells_101 ?_
  exact x_iret h dX3_tells_102 rfl (xpE.to (by subst_vars; rfl) (by subst_vars; rfl) rfl rfl)
theorem t_cA (l : Launch) (G : xG_T) (n : Nat) (hn : 103 ≤ n) (I : xI_T) (L : xL_T) (K : Nat) (hK : K < 8) (b x : Int32) (t : Nat) (ht : I 70 33 = nI t) (hb : vp_in b 50) (h9 : t + 50 ≤ 900) : I 88 (ix b) = nI K → CM l 20 yX3_comesBy cX3_comesBy 4 (some .int) G n [.ref (xb G + 70), .int b, .int (nI K), .int x] I L (some (.int (actV K 0 b x))) (m_rans (actT K 0) I) L := match K, hK with
  | 0, _ => fun hk => t_cB_0 l G n hn I L 19 b x t ht (by omega)
  | 1, _ => fun hk => t_cB_1 l G n hn I L 18 b x t ht (by omega)
  | 2, _ => fun hk => t_cB_2 l G n hn I L 18 b x t ht (by omega)
  | 3, _ => fun hk => t_cB_3 l G n hn I L 17 b x t ht (by omega)
  | 4, _ => fun hk => t_cB_4 l G n hn I L 17 b x t ht (by omega)
  | 5, _ => fun hk => t_cB_5 l G n hn I L 16 b x t ht (by omega)
  | 6, _ => fun hk => t_cB_6 l G n hn I L 18 b x t ht (by omega)
  | 7, _ => fun hk => t_cB_7 l G n hn I L 16 b x t ht (by omega)
  | K + 8, hK => absurd hK (by omega)
theorem t_oA (l : Launch) (G : xG_T) (n : Nat) (hn : 103 ≤ n) (I : xI_T) (L : xL_T) (K : Nat) (hK : K < 8) (b x : Int32) (t : Nat) (ht : I 70 33 = nI t) (hb : vp_in b 50) (h9 : t + 50 ≤ 900) : I 88 (ix b) = nI K → CM l 20 yX3_owesBy cX3_owesBy 5 (some .int) G n [.ref (xb G + 70), .int b, .int (nI K), .int x] I L (some (.int (actV K 1 b x))) (m_rans (actT K 1) I) L := match K, hK with
  | 0, _ => fun hk => t_oB_0_0 l G n hn I L 18 b x t ht hk hb (by omega)
  | 1, _ => fun hk => t_oB_1_1 l G n hn I L 16 b x t ht hk hb (by omega)
  | 2, _ => fun hk => t_oB_2_2 l G n hn I L 16 b x t ht hk hb (by omega)
  | 3, _ => fun hk => t_oB_3_3 l G n hn I L 14 b x t ht hk hb (by omega)
  | 4, _ => fun hk => t_oB_4_4 l G n hn I L 14 b x t ht hk hb (by omega)
  | 5, _ => fun hk => t_oB_5_5 l G n hn I L 12 b x t ht hk hb (by omega)
  | 6, _ => fun hk => t_oB_6_6 l G n hn I L 16 b x t ht hk hb (by omega)
  | 7, _ => fun hk => t_oB_7_7 l G n hn I L 12 b x t ht hk hb (by omega)
  | K + 8, hK => absurd hK (by omega)
theorem t_pA (l : Launch) (G : xG_T) (n : Nat) (hn : 103 ≤ n) (I : xI_T) (L : xL_T) (K : Nat) (hK : K < 8) (b x : Int32) (t : Nat) (ht : I 70 33 = nI t) (hb : vp_in b 50) (h9 : t + 50 ≤ 900) : I 88 (ix b) = nI K → CM l 20 yX3_paysBy cX3_paysBy 5 (some .int) G n [.ref (xb G + 70), .int b, .int (nI K), .int x] I L (some (.int (actV K 2 b x))) (m_rans (actT K 2) I) L := match K, hK with
  | 0, _ => fun hk => t_pB_0_0 l G n hn I L 19 b x t ht hk hb (by omega)
  | 1, _ => fun hk => t_pB_1_1 l G n hn I L 18 b x t ht hk hb (by omega)
  | 2, _ => fun hk => t_pB_2_2 l G n hn I L 18 b x t ht hk hb (by omega)
  | 3, _ => fun hk => t_pB_3_3 l G n hn I L 17 b x t ht hk hb (by omega)
  | 4, _ => fun hk => t_pB_4_4 l G n hn I L 16 b x t ht hk hb (by omega)
  | 5, _ => fun hk => t_pB_5_5 l G n hn I L 16 b x t ht hk hb (by omega)
  | 6, _ => fun hk => t_pB_6_6 l G n hn I L 18 b x t ht hk hb (by omega)
  | 7, _ => fun hk => t_pB_7_7 l G n hn I L 14 b x t ht hk hb (by omega)
  | K + 8, hK => absurd hK (by omega)
theorem t_tA (l : Launch) (G : xG_T) (n : Nat) (hn : 103 ≤ n) (I : xI_T) (L : xL_T) (K : Nat) (hK : K < 8) (b x : Int32) (t : Nat) (ht : I 70 33 = nI t) (hb : vp_in b 50) (h9 : t + 50 ≤ 900) : I 88 (ix b) = nI K → CM l 20 yX3_tells cX3_tells 5 (some .int) G n [.ref (xb G + 70), .int b, .int (nI K), .int x] I L (some (.int (actV K 3 b x))) (m_rans (actT K 3) I) L := match K, hK with
  | 0, _ => fun hk => t_tB_0_0 l G n hn I L 17 b x t ht hk hb (by omega)
  | 1, _ => fun hk => t_tB_1_1 l G n hn I L 14 b x t ht hk hb (by omega)
  | 2, _ => fun hk => t_tB_2_2 l G n hn I L 14 b x t ht hk hb (by omega)
  | 3, _ => fun hk => t_tB_3_3 l G n hn I L 11 b x t ht hk hb (by omega)
  | 4, _ => fun hk => t_tB_4_4 l G n hn I L 11 b x t ht hk hb (by omega)
  | 5, _ => fun hk => t_tB_5_5 l G n hn I L 8 b x t ht hk hb (by omega)
  | 6, _ => fun hk => t_tB_6_6 l G n hn I L 14 b x t ht hk hb (by omega)
  | 7, _ => fun hk => t_tB_7_7 l G n hn I L 8 b x t ht hk hb (by omega)
  | K + 8, hK => absurd hK (by omega)
set_option maxHeartbeats 4000000 in
theorem t_act (l : Launch) (G : xG_T) (n : Nat) (hn : 103 ≤ n) (I : xI_T) (L : xL_T) (b : Int32) (a : Int32) (x : Int32) (hB : Wbd I) : CM l 21 yX3_act cX3_act 5 (some .int) G n [.ref (xb G + 70), .int b, .int a, .int x] I L (some (.int ((m_act I b a x).1))) ((m_act I b a x).2) (L) := by
  refine Cg.intro (cls := RX3) (pad := 1) (lv := [some (.ref (xb G + 70)), some (.int b), some (.int a), some (.int x), none]) rfl (by decide) (Nat.le_of_ble_eq_true rfl) rfl (fun Θ h => ?_)
  refine x_aload_n h dX3_act_0 rfl ?_
  refine x_iconst h dX3_act_1 (0) rfl ?_
  refine x_puti h p_X3_348 (mlt hn rfl) rfl rfl rfl rfl dX3_act_2 (fun J2 eJ2 => ?_)
  refine x_iload_n h dX3_act_5 rfl ?_
  refine x_iconst h dX3_act_6 (0) rfl ?_
  refine x_aload_n h dX3_act_7 rfl ?_
  refine x_geti h g_X3_369 (mlt hn rfl) rfl rfl dX3_act_8 ?_
  refine x_iconst h dX3_act_11 (1) rfl ?_
  refine x_isub h dX3_act_12 ?_
  refine x_callSEi h (As := [.int _, .int _, .int _]) (t_within l G n hn _ _ _ _ _ ) m_X3_119 dX3_act_13 ⟨by decide, by decide⟩ ⟨by decide, by decide⟩ rfl (Nat.le_of_ble_eq_true rfl) ?_
  refine x_if_eq h 28 dX3_act_16 rfl (fun c16 => ?_) (fun c16 => ?_)
  · skip
    have d16 : inR b 0 (I 70 31 - 1) = 0 := by rw [eJ2, up2_k _ _ (by decide)] at c16; exact c16
    refine x_iconst h dX3_act_28 (0) rfl ?_
    exact x_iret h dX3_act_29 rfl (xpE.to (by unfold m_act; first | rw [if_pos d16] | rw [if_neg d16, if_pos c25]) (by unfold m_act; first | (rw [if_pos d16]; exact eJ2) | (rw [if_neg d16, if_pos c25]; exact eJ2)) rfl rfl)
  · skip
    have d16 : ¬ inR b 0 (I 70 31 - 1) = 0 := by rw [eJ2, up2_k _ _ (by decide)] at c16; exact c16
    refine x_iload_n h dX3_act_19 rfl ?_
    refine x_iconst h dX3_act_20 (0) rfl ?_
    refine x_iconst h dX3_act_21 (3) rfl ?_
    refine x_callSEi h (As := [.int _, .int _, .int _]) (t_within l G n hn _ _ _ _ _ ) m_X3_119 dX3_act_22 ⟨by decide, by decide⟩ ⟨by decide, by decide⟩ rfl (Nat.le_of_ble_eq_true rfl) ?_
    refine x_if_ne h 30 dX3_act_25 rfl (fun c25 => ?_) (fun c25 => ?_)
    · skip
      have hb : vp_in b 50 := body_in hB.1 d16
      obtain ⟨K, hK, eK⟩ : ∃ K : Nat, K < 8 ∧ I 88 (ix b) = nI K := vp_in_of (hB.2 (ix b) (nI_ix hb (by decide)).2) (by decide)
      refine x_aload_n h dX3_act_30 rfl ?_
      refine x_getr h (j := 88) g_X3_70 (mlt hn rfl) rfl (by decide) rfl dX3_act_31 ?_
      refine x_iload_n h dX3_act_34 rfl ?_
      refine x_iald h (mlt hn rfl) rfl hb _ rfl dX3_act_35 ?_
      refine x_eqi (nI K) (by rw [eJ2, up2_i _ _ (by decide)]; exact eK) ?_
      refine x_istore h dX3_act_36 (by decide) [some (.ref (xb G + 70)), some (.int b), some (.int a), some (.int x), some (.int (nI K))] rfl ?_
      refine x_iload_n h dX3_act_38 rfl ?_
      refine x_if_ne h 53 dX3_act_39 rfl (fun c39 => ?_) (fun c39 => ?_)
      · skip
        refine x_iload_n h dX3_act_53 rfl ?_
        refine x_iconst h dX3_act_54 (1) rfl ?_
        refine x_icmp_ne h 69 dX3_act_55 rfl (fun c55 => ?_) (fun c55 => ?_)
        · skip
          refine x_iload_n h dX3_act_69 rfl ?_
          refine x_iconst h dX3_act_70 (2) rfl ?_
          refine x_icmp_ne h 85 dX3_act_71 rfl (fun c71 => ?_) (fun c71 => ?_)
          · skip
            have hm : m_act I b a x = (actV K 3 b x, m_rans (actT K 3) J2) := by rw [act_B d16 c25 hK eK (A := 3) (by decide) (((inR_03 c25).resolve_left c39).resolve_left c55 |>.resolve_left c71), eJ2]
            refine x_aload_n h dX3_act_85 rfl ?_
            refine x_iload_n h dX3_act_86 rfl ?_
            refine x_iload h dX3_act_87 rfl ?_
            refine x_iload_n h dX3_act_89 rfl ?_
            refine x_callVEi h (As := [.int _, .int _, .int _]) (t_tA l G n hn _ _ K hK b x 0 (by rw [eJ2]; exact up2_s _ _ _ _) hb (by omega) (by rw [eJ2, up2_i _ _ (by decide)]; exact eK)) m_X3_366 (mlt hn rfl) rfl dX3_act_90 ⟨by decide, by decide⟩ ⟨by decide, by decide⟩ rfl (Nat.le_of_ble_eq_true rfl) ?_
            refine x_nmI (fun J90 eJ90 => ?_)
            exact x_iret h dX3_act_93 rfl (xpE.to (by rw [hm]) (by rw [hm]; assumption) rfl rfl)
          · skip
            have hm : m_act I b a x = (actV K 2 b x, m_rans (actT K 2) J2) := by rw [act_B d16 c25 hK eK (A := 2) (by decide) c71, eJ2]
            refine x_aload_n h dX3_act_74 rfl ?_
            refine x_iload_n h dX3_act_75 rfl ?_
            refine x_iload h dX3_act_76 rfl ?_
            refine x_iload_n h dX3_act_78 rfl ?_
            refine x_callVEi h (As := [.int _, .int _, .int _]) (t_pA l G n hn _ _ K hK b x 0 (by rw [eJ2]; exact up2_s _ _ _ _) hb (by omega) (by rw [eJ2, up2_i _ _ (by decide)]; exact eK)) m_X3_363 (mlt hn rfl) rfl dX3_act_79 ⟨by decide, by decide⟩ ⟨by decide, by decide⟩ rfl (Nat.le_of_ble_eq_true rfl) ?_
            refine x_nmI (fun J79 eJ79 => ?_)
            refine x_goto h 93 dX3_act_82 rfl ?_
            exact x_iret h dX3_act_93 rfl (xpE.to (by rw [hm]) (by rw [hm]; assumption) rfl rfl)
        · skip
          have hm : m_act I b a x = (actV K 1 b x, m_rans (actT K 1) J2) := by rw [act_B d16 c25 hK eK (A := 1) (by decide) c55, eJ2]
          refine x_aload_n h dX3_act_58 rfl ?_
          refine x_iload_n h dX3_act_59 rfl ?_
          refine x_iload h dX3_act_60 rfl ?_
          refine x_iload_n h dX3_act_62 rfl ?_
          refine x_callVEi h (As := [.int _, .int _, .int _]) (t_oA l G n hn _ _ K hK b x 0 (by rw [eJ2]; exact up2_s _ _ _ _) hb (by omega) (by rw [eJ2, up2_i _ _ (by decide)]; exact eK)) m_X3_360 (mlt hn rfl) rfl dX3_act_63 ⟨by decide, by decide⟩ ⟨by decide, by decide⟩ rfl (Nat.le_of_ble_eq_true rfl) ?_
          refine x_nmI (fun J63 eJ63 => ?_)
          refine x_goto h 93 dX3_act_66 rfl ?_
          exact x_iret h dX3_act_93 rfl (xpE.to (by rw [hm]) (by rw [hm]; assumption) rfl rfl)
      · skip
        have hm : m_act I b a x = (actV K 0 b x, m_rans (actT K 0) J2) := by rw [act_B d16 c25 hK eK (A := 0) (by decide) c39, eJ2]
        refine x_aload_n h dX3_act_42 rfl ?_
        refine x_iload_n h dX3_act_43 rfl ?_
        refine x_iload h dX3_act_44 rfl ?_
        refine x_iload_n h dX3_act_46 rfl ?_
        refine x_callVEi h (As := [.int _, .int _, .int _]) (t_cA l G n hn _ _ K hK b x 0 (by rw [eJ2]; exact up2_s _ _ _ _) hb (by omega) (by rw [eJ2, up2_i _ _ (by decide)]; exact eK)) m_X3_354 (mlt hn rfl) rfl dX3_act_47 ⟨by decide, by decide⟩ ⟨by decide, by decide⟩ rfl (Nat.le_of_ble_eq_true rfl) ?_
        refine x_nmI (fun J47 eJ47 => ?_)
        refine x_goto h 93 dX3_act_50 rfl ?_
        exact x_iret h dX3_act_93 rfl (xpE.to (by rw [hm]) (by rw [hm]; assumption) rfl rfl)
    · skip
      refine x_iconst h dX3_act_28 (0) rfl ?_
      exact x_iret h dX3_act_29 rfl (xpE.to (by unfold m_act; first | rw [if_pos d16] | rw [if_neg d16, if_pos c25]) (by unfold m_act; first | (rw [if_pos d16]; exact eJ2) | (rw [if_neg d16, if_pos c25]; exact eJ2)) rfl rfl)
set_option maxHeartbeats 4000000 in
theorem t_body (l : Launch) (G : xG_T) (n : Nat) (hn : 103 ≤ n) (I : xI_T) (L : xL_T) (k : Int32) (hB : Wbd I) : CM l 1 yX3_body cX3_body 2 (some .int) G n [.ref (xb G + 70), .int k] I L (some (.int ((m_body I k).1))) ((m_body I k).2) (L) := by
  refine Cg.intro (cls := RX3) (pad := 0) (lv := [some (.ref (xb G + 70)), some (.int k)]) rfl (by decide) (Nat.le_of_ble_eq_true rfl) rfl (fun Θ h => ?_)
  refine x_iload_n h dX3_body_0 rfl ?_
  refine x_iconst h dX3_body_1 (0) rfl ?_
  refine x_bipush h dX3_body_2 (7) rfl ?_
  refine x_callSEi h (As := [.int _, .int _, .int _]) (t_within l G n hn _ _ _ _ _ ) m_X3_119 dX3_body_4 ⟨by decide, by decide⟩ ⟨by decide, by decide⟩ rfl (Nat.le_of_ble_eq_true rfl) ?_
  refine x_if_ne h 12 dX3_body_7 rfl (fun c7 => ?_) (fun c7 => ?_)
  · skip
    refine x_aload_n h dX3_body_12 rfl ?_
    refine x_geti h g_X3_369 (mlt hn rfl) rfl rfl dX3_body_13 ?_
    refine x_bipush h dX3_body_16 (50) rfl ?_
    refine x_icmp_ne h 24 dX3_body_18 rfl (fun c18 => ?_) (fun c18 => ?_)
    · skip
      refine x_aload_n h dX3_body_24 rfl ?_
      refine x_getr h (j := 88) g_X3_70 (mlt hn rfl) rfl (by decide) rfl dX3_body_25 ?_
      refine x_aload_n h dX3_body_28 rfl ?_
      refine x_geti h g_X3_369 (mlt hn rfl) rfl rfl dX3_body_29 ?_
      refine x_iload_n h dX3_body_32 rfl ?_
      refine x_iast h (mlt hn rfl) rfl (bd_50 hB.1 c18) _ rfl dX3_body_33 (fun J33 eJ33 => ?_)
      refine x_aload_n h dX3_body_34 rfl ?_
      refine x_dup h dX3_body_35 rfl ?_
      refine x_geti h g_X3_369 (mlt hn rfl) rfl rfl dX3_body_36 ?_
      refine x_dup_x1 h dX3_body_39 rfl rfl ?_
      refine x_iconst h dX3_body_40 (1) rfl ?_
      refine x_iadd h dX3_body_41 ?_
      refine x_puti h p_X3_369 (mlt hn rfl) rfl rfl rfl rfl dX3_body_42 (fun J42 eJ42 => ?_)
      exact x_iret h dX3_body_45 rfl (xpE.to (by subst_vars; first | with_reducible rfl | (simp only [m_body, *]; done) | (simp only [m_body, ix, *]; rfl) | (simp [m_body, ix, up2_ap, bec_k, bec_i, *]; done)) (by subst_vars; first | with_reducible rfl | (simp only [m_body, *]; done) | (simp only [m_body, ix, *]; rfl) | (simp [m_body, ix, up2_ap, bec_k, bec_i, *]; done)) rfl rfl)
    · skip
      refine x_bipush h dX3_body_21 (-3) rfl ?_
      exact x_iret h dX3_body_23 rfl (xpE.to (by subst_vars; first | with_reducible rfl | (simp only [m_body, *]; done) | (simp only [m_body, ix, *]; rfl) | (simp [m_body, ix, up2_ap, bec_k, bec_i, *]; done)) (by subst_vars; first | with_reducible rfl | (simp only [m_body, *]; done) | (simp only [m_body, ix, *]; rfl) | (simp [m_body, ix, up2_ap, bec_k, bec_i, *]; done)) rfl rfl)
  · skip
    refine x_iconst h dX3_body_10 (-1) rfl ?_
    exact x_iret h dX3_body_11 rfl (xpE.to (by subst_vars; first | with_reducible rfl | (simp only [m_body, *]; done) | (simp only [m_body, ix, *]; rfl) | (simp [m_body, ix, up2_ap, bec_k, bec_i, *]; done)) (by subst_vars; first | with_reducible rfl | (simp only [m_body, *]; done) | (simp only [m_body, ix, *]; rfl) | (simp [m_body, ix, up2_ap, bec_k, bec_i, *]; done)) rfl rfl)
