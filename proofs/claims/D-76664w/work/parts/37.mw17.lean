/-! WALKS OF THE REFERENCE: by turns -/
theorem g_X3_89 : xfg RX3 89 3 39 := ⟨_, _, _, rfl, by decide, in_X3, q1719, rfl⟩
theorem m_X3_333 : xcv RX3 333 3 yX3_turnFrom cX3_turnFrom 7 (some .int) 4 := ⟨_, _, _, rfl, lw_V q2115 q2117 qs90 q102 q2118, rfl, by decide +kernel, by decide +kernel, by decide +kernel⟩
theorem m_X3_337 : xcv RX3 337 3 yX3_comesAt cX3_comesAt 6 (some .int) 4 := ⟨_, _, _, rfl, lw_V q2119 q2121 qs91 q102 q2122, rfl, by decide +kernel, by decide +kernel, by decide +kernel⟩
set_option maxHeartbeats 4000000 in
theorem t_comesAt (l : Launch) (G : xG_T) (n : Nat) (hn : 103 ≤ n) (I : xI_T) (L : xL_T) (d : Nat) (IH : TurnP d) (i : Nat) (a b : Int32) (hid : i + 1 + d ≤ 5) (hM : Wmk I) (hW : Wlaw I) (ha : vp_in a 8) (hb : vp_in b 8) : CM l (6 + 2 * d) yX3_comesAt cX3_comesAt 6 (some .int) G n [.ref (xb G + 70), .int (nI i), .int (nI (i + 1 + d)), .int a, .int b] I L (some (.int ((m_comesAt a b d i I).1))) ((m_comesAt a b d i I).2) (L) := by
  refine Cg.intro (cls := RX3) (pad := 1) (lv := [some (.ref (xb G + 70)), some (.int (nI i)), some (.int (nI (i + 1 + d))), some (.int a), some (.int b), none]) rfl (by decide) (Nat.le_of_ble_eq_true rfl) rfl (fun Θ h => ?_)
  refine x_aload_n h dX3_comesAt_0 rfl ?_
  refine x_aload_n h dX3_comesAt_1 rfl ?_
  refine x_getr h (j := 94) g_X3_89 (mlt hn rfl) rfl (by decide) rfl dX3_comesAt_2 ?_
  refine x_bipush h dX3_comesAt_5 (31) rfl ?_
  refine x_iload_n h dX3_comesAt_7 rfl ?_
  refine x_imulE h (nI (31 * i)) (pk_mul 31 i) dX3_comesAt_8 ?_
  refine x_callVEv h (As := [.ref _, .int _]) (t_keeps l G n hn _ _ 94 (31 * i) 155 (Nat.le_of_ble_eq_true rfl) rfl (by omega) (Nat.le_of_ble_eq_true rfl) (by decide)) m_X3_263 (mlt hn rfl) rfl dX3_comesAt_9 ⟨by omega, by decide⟩ ⟨by decide, by decide⟩ rfl (Nat.le_of_ble_eq_true rfl) ?_
  refine x_nmI (fun J9 eJ9 => ?_)
  refine x_aload_n h dX3_comesAt_12 rfl ?_
  refine x_iload_n h dX3_comesAt_13 rfl ?_
  refine x_iconst h dX3_comesAt_14 (2) rfl ?_
  refine x_irem h dX3_comesAt_15 (by decide) ?_
  refine x_if_ne h 23 dX3_comesAt_16 rfl (fun c16 => ?_) (fun c16 => ?_)
  · skip
    have hi3 := par_1 (by omega) c16
    refine x_iload h dX3_comesAt_23 rfl ?_
    refine x_callVEi h (As := [.int _]) (t_goesIn l G n hn _ _ _ (by assumption) (by rw [eJ9]; exact hM.keeps (by decide) (by decide)) (by rw [eJ9]; exact hW.keeps (by decide) (by decide))) m_X3_260 (mlt hn rfl) rfl dX3_comesAt_25 ⟨by omega, by decide⟩ ⟨by decide, by decide⟩ rfl (Nat.le_of_ble_eq_true rfl) ?_
    refine x_nmI (fun J25 eJ25 => ?_)
    refine x_pop h dX3_comesAt_28 rfl ?_
    refine x_aload_n h dX3_comesAt_29 rfl ?_
    refine x_iload_n h dX3_comesAt_30 rfl ?_
    refine x_iconst h dX3_comesAt_31 (1) rfl ?_
    refine x_iaddE h (nI (i + 1)) (nI_add i 1) dX3_comesAt_32 ?_
    refine x_iload_n h dX3_comesAt_33 rfl ?_
    refine x_iload_n h dX3_comesAt_34 rfl ?_
    refine x_iload h dX3_comesAt_35 rfl ?_
    refine x_callVEi h (As := [.int _, .int _, .int _, .int _]) (IH l G n hn _ _ (i + 1) a b (by omega) (by rw [eJ25, eJ9]; exact (hM.keeps (by decide) (by decide)).goes1 (by assumption)) (by rw [eJ25, eJ9]; exact (hW.keeps (by decide) (by decide)).goes1) ha hb) m_X3_333 (mlt hn rfl) rfl dX3_comesAt_37 ⟨by omega, by decide⟩ ⟨by decide, by decide⟩ rfl (Nat.le_of_ble_eq_true rfl) ?_
    refine x_nmI (fun J37 eJ37 => ?_)
    refine x_nmi (fun v40 ev40 => ?_)
    refine x_istore h dX3_comesAt_40 (by decide) [some (.ref (xb G + 70)), some (.int (nI i)), some (.int (nI (i + 1 + d))), some (.int a), some (.int b), some (.int v40)] rfl ?_
    refine x_aload_n h dX3_comesAt_42 rfl ?_
    refine x_aload_n h dX3_comesAt_43 rfl ?_
    refine x_getr h (j := 94) g_X3_89 (mlt hn rfl) rfl (by decide) rfl dX3_comesAt_44 ?_
    refine x_bipush h dX3_comesAt_47 (31) rfl ?_
    refine x_iload_n h dX3_comesAt_49 rfl ?_
    refine x_imulE h (nI (31 * i)) (pk_mul 31 i) dX3_comesAt_50 ?_
    refine x_callVEv h (As := [.ref _, .int _]) (t_laysBack l G n hn _ _ 94 (31 * i) 155 (Nat.le_of_ble_eq_true rfl) rfl (by omega) (Nat.le_of_ble_eq_true rfl) (by decide)) m_X3_273 (mlt hn rfl) rfl dX3_comesAt_51 ⟨by omega, by decide⟩ ⟨by decide, by decide⟩ rfl (Nat.le_of_ble_eq_true rfl) ?_
    refine x_nmI (fun J51 eJ51 => ?_)
    refine x_iload h dX3_comesAt_54 rfl ?_
    exact x_iret h dX3_comesAt_56 rfl (xpE.to (by (first | simp only [m_comesAt, if_neg hi3] | simp only [m_comesAt, if_pos hi2]); rw [ev40, eJ25, eJ9]) (by (first | simp only [m_comesAt, if_neg hi3] | simp only [m_comesAt, if_pos hi2]); rw [eJ51, eJ37, eJ25, eJ9]) rfl rfl)
  · skip
    have hi2 := par_0 (by omega) c16
    refine x_iload_n h dX3_comesAt_19 rfl ?_
    refine x_goto h 25 dX3_comesAt_20 rfl ?_
    refine x_callVEi h (As := [.int _]) (t_goesIn l G n hn _ _ _ (by assumption) (by rw [eJ9]; exact hM.keeps (by decide) (by decide)) (by rw [eJ9]; exact hW.keeps (by decide) (by decide))) m_X3_260 (mlt hn rfl) rfl dX3_comesAt_25 ⟨by omega, by decide⟩ ⟨by decide, by decide⟩ rfl (Nat.le_of_ble_eq_true rfl) ?_
    refine x_nmI (fun J25 eJ25 => ?_)
    refine x_pop h dX3_comesAt_28 rfl ?_
    refine x_aload_n h dX3_comesAt_29 rfl ?_
    refine x_iload_n h dX3_comesAt_30 rfl ?_
    refine x_iconst h dX3_comesAt_31 (1) rfl ?_
    refine x_iaddE h (nI (i + 1)) (nI_add i 1) dX3_comesAt_32 ?_
    refine x_iload_n h dX3_comesAt_33 rfl ?_
    refine x_iload_n h dX3_comesAt_34 rfl ?_
    refine x_iload h dX3_comesAt_35 rfl ?_
    refine x_callVEi h (As := [.int _, .int _, .int _, .int _]) (IH l G n hn _ _ (i + 1) a b (by omega) (by rw [eJ25, eJ9]; exact (hM.keeps (by decide) (by decide)).goes1 (by assumption)) (by rw [eJ25, eJ9]; exact (hW.keeps (by decide) (by decide)).goes1) ha hb) m_X3_333 (mlt hn rfl) rfl dX3_comesAt_37 ⟨by omega, by decide⟩ ⟨by decide, by decide⟩ rfl (Nat.le_of_ble_eq_true rfl) ?_
    refine x_nmI (fun J37 eJ37 => ?_)
    refine x_nmi (fun v40 ev40 => ?_)
    refine x_istore h dX3_comesAt_40 (by decide) [some (.ref (xb G + 70)), some (.int (nI i)), some (.int (nI (i + 1 + d))), some (.int a), some (.int b), some (.int v40)] rfl ?_
    refine x_aload_n h dX3_comesAt_42 rfl ?_
    refine x_aload_n h dX3_comesAt_43 rfl ?_
    refine x_getr h (j := 94) g_X3_89 (mlt hn rfl) rfl (by decide) rfl dX3_comesAt_44 ?_
    refine x_bipush h dX3_comesAt_47 (31) rfl ?_
    refine x_iload_n h dX3_comesAt_49 rfl ?_
    refine x_imulE h (nI (31 * i)) (pk_mul 31 i) dX3_comesAt_50 ?_
    refine x_callVEv h (As := [.ref _, .int _]) (t_laysBack l G n hn _ _ 94 (31 * i) 155 (Nat.le_of_ble_eq_true rfl) rfl (by omega) (Nat.le_of_ble_eq_true rfl) (by decide)) m_X3_273 (mlt hn rfl) rfl dX3_comesAt_51 ⟨by omega, by decide⟩ ⟨by decide, by decide⟩ rfl (Nat.le_of_ble_eq_true rfl) ?_
    refine x_nmI (fun J51 eJ51 => ?_)
    refine x_iload h dX3_comesAt_54 rfl ?_
    exact x_iret h dX3_comesAt_56 rfl (xpE.to (by (first | simp only [m_comesAt, if_neg hi3] | simp only [m_comesAt, if_pos hi2]); rw [ev40, eJ25, eJ9]) (by (first | simp only [m_comesAt, if_neg hi3] | simp only [m_comesAt, if_pos hi2]); rw [eJ51, eJ37, eJ25, eJ9]) rfl rfl)
set_option maxHeartbeats 4000000 in
theorem t_turn0 (l : Launch) (G : xG_T) (n : Nat) (hn : 103 ≤ n) (I : xI_T) (L : xL_T) (i : Nat) (a b : Int32) (hid : i + 0 ≤ 5) (_ : Wmk I) (_ : Wlaw I) (ha : vp_in a 8) (hb : vp_in b 8) : CM l (5 + 2 * 0) yX3_turnFrom cX3_turnFrom 7 (some .int) G n [.ref (xb G + 70), .int (nI i), .int (nI (i + 0)), .int a, .int b] I L (some (.int ((m_turn a b 0 i I).1))) ((m_turn a b 0 i I).2) (L) := by
  refine Cg.intro (cls := RX3) (pad := 2) (lv := [some (.ref (xb G + 70)), some (.int (nI i)), some (.int (nI (i + 0))), some (.int a), some (.int b), none, none]) rfl (by decide) (Nat.le_of_ble_eq_true rfl) rfl (fun Θ h => ?_)
  refine x_iload_n h dX3_turnFrom_0 rfl ?_
  refine x_iload_n h dX3_turnFrom_1 rfl ?_
  refine x_icmp_ne h 20 dX3_turnFrom_2 rfl (fun c2 => ?_) (fun c2 => ?_)
  · skip
    exact absurd rfl c2
  · skip
    refine x_aload_n h dX3_turnFrom_5 rfl ?_
    refine x_getr h (j := 72) g_X3_22 (mlt hn rfl) rfl (by decide) rfl dX3_turnFrom_6 ?_
    refine x_iload_n h dX3_turnFrom_9 rfl ?_
    refine x_iald h (mlt hn rfl) rfl (xin_mono ha (by decide)) _ rfl dX3_turnFrom_10 ?_
    refine x_aload_n h dX3_turnFrom_11 rfl ?_
    refine x_getr h (j := 72) g_X3_22 (mlt hn rfl) rfl (by decide) rfl dX3_turnFrom_12 ?_
    refine x_iload h dX3_turnFrom_15 rfl ?_
    refine x_iald h (mlt hn rfl) rfl (xin_mono hb (by decide)) _ rfl dX3_turnFrom_17 ?_
    refine x_isub h dX3_turnFrom_18 ?_
    exact x_iret h dX3_turnFrom_19 rfl (xpE.to rfl rfl rfl rfl)
set_option maxHeartbeats 4000000 in
theorem t_turnS (l : Launch) (G : xG_T) (n : Nat) (hn : 103 ≤ n) (I : xI_T) (L : xL_T) (d : Nat) (IH : TurnP d) (i : Nat) (a b : Int32) (hid : i + (d + 1) ≤ 5) (hM : Wmk I) (hW : Wlaw I) (ha : vp_in a 8) (hb : vp_in b 8) : CM l (5 + 2 * (d + 1)) yX3_turnFrom cX3_turnFrom 7 (some .int) G n [.ref (xb G + 70), .int (nI i), .int (nI (i + (d + 1))), .int a, .int b] I L (some (.int ((m_turn a b (d + 1) i I).1))) ((m_turn a b (d + 1) i I).2) (L) := by
  rw [show i + (d + 1) = i + 1 + d by omega]
  refine Cg.intro (cls := RX3) (pad := 2) (lv := [some (.ref (xb G + 70)), some (.int (nI i)), some (.int (nI (i + 1 + d))), some (.int a), some (.int b), none, none]) rfl (by decide) (Nat.le_of_ble_eq_true rfl) rfl (fun Θ h => ?_)
  refine x_iload_n h dX3_turnFrom_0 rfl ?_
  refine x_iload_n h dX3_turnFrom_1 rfl ?_
  refine x_icmp_ne h 20 dX3_turnFrom_2 rfl (fun c2 => ?_) (fun c2 => ?_)
  · skip
    refine x_aload_n h dX3_turnFrom_20 rfl ?_
    refine x_iload_n h dX3_turnFrom_21 rfl ?_
    refine x_iconst h dX3_turnFrom_22 (1) rfl ?_
    refine x_iaddE h (nI (i + 1)) (nI_add i 1) dX3_turnFrom_23 ?_
    refine x_iload_n h dX3_turnFrom_24 rfl ?_
    refine x_iload_n h dX3_turnFrom_25 rfl ?_
    refine x_iload h dX3_turnFrom_26 rfl ?_
    refine x_callVEi h (As := [.int _, .int _, .int _, .int _]) (IH l G n hn _ _ (i + 1) a b (by omega) hM hW ha hb) m_X3_333 (mlt hn rfl) rfl dX3_turnFrom_28 ⟨by omega, by decide⟩ ⟨by decide, by decide⟩ rfl (Nat.le_of_ble_eq_true rfl) ?_
    refine x_nmI (fun J28 eJ28 => ?_)
    have h28 : Wmk J28 ∧ Wlaw J28 := by rw [eJ28]; exact (turn_K d (i + 1) I).W hM hW
    refine x_nmi (fun v31 ev31 => ?_)
    refine x_istore h dX3_turnFrom_31 (by decide) [some (.ref (xb G + 70)), some (.int (nI i)), some (.int (nI (i + 1 + d))), some (.int a), some (.int b), some (.int v31), none] rfl ?_
    refine x_aload_n h dX3_turnFrom_33 rfl ?_
    refine x_iload_n h dX3_turnFrom_34 rfl ?_
    refine x_iload_n h dX3_turnFrom_35 rfl ?_
    refine x_iload_n h dX3_turnFrom_36 rfl ?_
    refine x_iload h dX3_turnFrom_37 rfl ?_
    refine x_callVEi h (As := [.int _, .int _, .int _, .int _]) (t_comesAt l G n hn _ _ d IH i a b (by omega) h28.1 h28.2 ha hb) m_X3_337 (mlt hn rfl) rfl dX3_turnFrom_39 ⟨by omega, by decide⟩ ⟨by decide, by decide⟩ rfl (Nat.le_of_ble_eq_true rfl) ?_
    refine x_nmI (fun J39 eJ39 => ?_)
    refine x_nmi (fun v42 ev42 => ?_)
    refine x_istore h dX3_turnFrom_42 (by decide) [some (.ref (xb G + 70)), some (.int (nI i)), some (.int (nI (i + 1 + d))), some (.int a), some (.int b), some (.int v31), some (.int v42)] rfl ?_
    refine x_iload_n h dX3_turnFrom_44 rfl ?_
    refine x_iconst h dX3_turnFrom_45 (2) rfl ?_
    refine x_irem h dX3_turnFrom_46 (by decide) ?_
    refine x_if_ne h 60 dX3_turnFrom_47 rfl (fun c47 => ?_) (fun c47 => ?_)
    · skip
      have hi3 := par_1 (by omega) c47
      refine x_iload h dX3_turnFrom_60 rfl ?_
      refine x_iload h dX3_turnFrom_62 rfl ?_
      refine x_mmin h q1992 (by omega) ⟨by decide, by decide⟩ (Nat.le_of_ble_eq_true rfl) dX3_turnFrom_64 ?_
      exact x_iret h dX3_turnFrom_67 rfl (xpE.to (by rw [turn_s, ← eJ28, ← ev31, ← ev42]; first | (simp only [if_neg hi3]; done) | (simp only [if_pos hi2]; done)) (by rw [turn_s, ← eJ28]; exact eJ39) rfl rfl)
    · skip
      have hi2 := par_0 (by omega) c47
      refine x_iload h dX3_turnFrom_50 rfl ?_
      refine x_iload h dX3_turnFrom_52 rfl ?_
      refine x_mmax h q2008 (by omega) ⟨by decide, by decide⟩ (Nat.le_of_ble_eq_true rfl) dX3_turnFrom_54 ?_
      refine x_goto h 67 dX3_turnFrom_57 rfl ?_
      exact x_iret h dX3_turnFrom_67 rfl (xpE.to (by rw [turn_s, ← eJ28, ← ev31, ← ev42]; first | (simp only [if_neg hi3]; done) | (simp only [if_pos hi2]; done)) (by rw [turn_s, ← eJ28]; exact eJ39) rfl rfl)
  · skip
    exact absurd ((nI_eq (by omega) (by omega)).mp c2) (by omega)
theorem t_turnFrom : ∀ d : Nat, TurnP d
  | 0 => fun l G n hn I L i a b h1 h2 h3 h4 h5 => t_turn0 l G n hn I L i a b h1 h2 h3 h4 h5
  | d + 1 => fun l G n hn I L i a b h1 h2 h3 h4 h5 => t_turnS l G n hn I L d (t_turnFrom d) i a b h1 h2 h3 h4 h5
set_option maxHeartbeats 4000000 in
theorem t_byTurns (l : Launch) (G : xG_T) (n : Nat) (hn : 103 ≤ n) (I : xI_T) (L : xL_T) (ab : Int32) (z : Int32) (w : Int32) (hT : Wtop I) : CM l 20 yX3_byTurns cX3_byTurns 6 (some .int) G n [.ref (xb G + 70), .int ab, .int z, .int w] I L (some (.int ((m_byTurns I ab z w).1))) ((m_byTurns I ab z w).2) (L) := by
  refine Cg.intro (cls := RX3) (pad := 2) (lv := [some (.ref (xb G + 70)), some (.int ab), some (.int z), some (.int w), none, none]) rfl (by decide) (Nat.le_of_ble_eq_true rfl) rfl (fun Θ h => ?_)
  refine x_aload_n h dX3_byTurns_0 rfl ?_
  refine x_iload_n h dX3_byTurns_1 rfl ?_
  refine x_callVEi h (As := [.int _]) (t_isPair l G n hn _ _ _ ) m_X3_308 (mlt hn rfl) rfl dX3_byTurns_2 ⟨by omega, by decide⟩ ⟨by decide, by decide⟩ rfl (Nat.le_of_ble_eq_true rfl) ?_
  refine x_if_eq h 26 dX3_byTurns_5 rfl (fun c5 => ?_) (fun c5 => ?_)
  · skip
    refine x_ldcw h dX3_byTurns_26 q2114 ?_
    exact x_iret h dX3_byTurns_29 rfl (xpE.to (by subst_vars; first | with_reducible rfl | (simp only [m_byTurns, *]; done) | (simp only [m_byTurns, ix, *]; rfl) | (simp [m_byTurns, ix, up2_ap, bec_k, bec_i, *]; done)) (by subst_vars; first | with_reducible rfl | (simp only [m_byTurns, *]; done) | (simp only [m_byTurns, ix, *]; rfl) | (simp [m_byTurns, ix, up2_ap, bec_k, bec_i, *]; done)) rfl rfl)
  · skip
    refine x_iload_n h dX3_byTurns_8 rfl ?_
    refine x_iconst h dX3_byTurns_9 (1) rfl ?_
    refine x_iconst h dX3_byTurns_10 (5) rfl ?_
    refine x_callSEi h (As := [.int _, .int _, .int _]) (t_within l G n hn _ _ _ _ _ ) m_X3_119 dX3_byTurns_11 ⟨by omega, by decide⟩ ⟨by decide, by decide⟩ rfl (Nat.le_of_ble_eq_true rfl) ?_
    refine x_if_eq h 26 dX3_byTurns_14 rfl (fun c14 => ?_) (fun c14 => ?_)
    · skip
      refine x_ldcw h dX3_byTurns_26 q2114 ?_
      exact x_iret h dX3_byTurns_29 rfl (xpE.to (by subst_vars; first | with_reducible rfl | (simp only [m_byTurns, *]; done) | (simp only [m_byTurns, ix, *]; rfl) | (simp [m_byTurns, ix, up2_ap, bec_k, bec_i, *]; done)) (by subst_vars; first | with_reducible rfl | (simp only [m_byTurns, *]; done) | (simp only [m_byTurns, ix, *]; rfl) | (simp [m_byTurns, ix, up2_ap, bec_k, bec_i, *]; done)) rfl rfl)
    · skip
      refine x_iload_n h dX3_byTurns_17 rfl ?_
      refine x_iconst h dX3_byTurns_18 (0) rfl ?_
      refine x_iconst h dX3_byTurns_19 (1) rfl ?_
      refine x_callSEi h (As := [.int _, .int _, .int _]) (t_within l G n hn _ _ _ _ _ ) m_X3_119 dX3_byTurns_20 ⟨by omega, by decide⟩ ⟨by decide, by decide⟩ rfl (Nat.le_of_ble_eq_true rfl) ?_
      refine x_if_ne h 30 dX3_byTurns_23 rfl (fun c23 => ?_) (fun c23 => ?_)
      · skip
        obtain ⟨e, he, rfl⟩ := turns_z c14
        have hp := pair_2 hT.1.1 c5
        refine x_aload_n h dX3_byTurns_30 rfl ?_
        refine x_iconst h dX3_byTurns_31 (1) rfl ?_
        refine x_iload_n h dX3_byTurns_32 rfl ?_
        refine x_iload_n h dX3_byTurns_33 rfl ?_
        refine x_bipush h dX3_byTurns_34 (10) rfl ?_
        refine x_idiv h dX3_byTurns_36 (by decide) ?_
        refine x_iload_n h dX3_byTurns_37 rfl ?_
        refine x_bipush h dX3_byTurns_38 (10) rfl ?_
        refine x_irem h dX3_byTurns_40 (by decide) ?_
        refine x_callVEi h (As := [.int _, .int _, .int _, .int _]) (t_turnFrom e l G n hn _ _ 1 (ab / 10) (irm ab 10) (by omega) hT.1 hT.2 hp.1 hp.2.1) m_X3_333 (mlt hn rfl) rfl dX3_byTurns_41 ⟨by omega, by decide⟩ ⟨by decide, by decide⟩ rfl (Nat.le_of_ble_eq_true rfl) ?_
        refine x_nmI (fun J41 eJ41 => ?_)
        have h41 : Wmk J41 ∧ Wlaw J41 := by rw [eJ41]; exact (turn_K e 1 I).W hT.1 hT.2
        refine x_nmi (fun v44 ev44 => ?_)
        refine x_istore h dX3_byTurns_44 (by decide) [some (.ref (xb G + 70)), some (.int ab), some (.int (nI (1 + e))), some (.int w), some (.int v44), none] rfl ?_
        refine x_aload_n h dX3_byTurns_46 rfl ?_
        refine x_iconst h dX3_byTurns_47 (0) rfl ?_
        refine x_iload_n h dX3_byTurns_48 rfl ?_
        refine x_iload_n h dX3_byTurns_49 rfl ?_
        refine x_bipush h dX3_byTurns_50 (10) rfl ?_
        refine x_idiv h dX3_byTurns_52 (by decide) ?_
        refine x_iload_n h dX3_byTurns_53 rfl ?_
        refine x_bipush h dX3_byTurns_54 (10) rfl ?_
        refine x_irem h dX3_byTurns_56 (by decide) ?_
        refine x_callVEi h (As := [.int _, .int _, .int _, .int _]) (t_comesAt l G n hn _ _ e (t_turnFrom e) 0 (ab / 10) (irm ab 10) (by omega) h41.1 h41.2 hp.1 hp.2.1) m_X3_337 (mlt hn rfl) rfl dX3_byTurns_57 ⟨by omega, by decide⟩ ⟨by decide, by decide⟩ rfl (Nat.le_of_ble_eq_true rfl) ?_
        refine x_nmI (fun J57 eJ57 => ?_)
        refine x_nmi (fun v60 ev60 => ?_)
        refine x_istore h dX3_byTurns_60 (by decide) [some (.ref (xb G + 70)), some (.int ab), some (.int (nI (1 + e))), some (.int w), some (.int v44), some (.int v60)] rfl ?_
        refine x_iload_n h dX3_byTurns_62 rfl ?_
        refine x_if_ne h 76 dX3_byTurns_63 rfl (fun c63 => ?_) (fun c63 => ?_)
        · skip
          refine x_iload h dX3_byTurns_76 rfl ?_
          refine x_iload h dX3_byTurns_78 rfl ?_
          refine x_icmp_le h 87 dX3_byTurns_80 rfl (fun c80 => ?_) (fun c80 => ?_)
          · skip
            have n80 := Int32.not_lt.mpr c80
            refine x_iconst h dX3_byTurns_87 (0) rfl ?_
            exact x_iret h dX3_byTurns_88 rfl (xpE.to (by rw [byTurns_B c5 c14 c23 he]; unfold m_byTurnsB; rw [← eJ41, ← ev44, ← ev60]; first | (simp only [if_neg c63, if_neg n80]; done) | (simp only [if_neg c63, if_pos n80]; done) | (simp only [if_pos c63]; done)) (by rw [byTurns_B c5 c14 c23 he]; unfold m_byTurnsB; rw [← eJ41]; exact eJ57) rfl rfl)
          · skip
            have n80 := Int32.not_le.mp c80
            refine x_iconst h dX3_byTurns_83 (1) rfl ?_
            refine x_goto h 88 dX3_byTurns_84 rfl ?_
            exact x_iret h dX3_byTurns_88 rfl (xpE.to (by rw [byTurns_B c5 c14 c23 he]; unfold m_byTurnsB; rw [← eJ41, ← ev44, ← ev60]; first | (simp only [if_neg c63, if_neg n80]; done) | (simp only [if_neg c63, if_pos n80]; done) | (simp only [if_pos c63]; done)) (by rw [byTurns_B c5 c14 c23 he]; unfold m_byTurnsB; rw [← eJ41]; exact eJ57) rfl rfl)
        · skip
          refine x_iload h dX3_byTurns_66 rfl ?_
          refine x_iload h dX3_byTurns_68 rfl ?_
          refine x_mmax h q2008 (by omega) ⟨by decide, by decide⟩ (Nat.le_of_ble_eq_true rfl) dX3_byTurns_70 ?_
          refine x_goto h 88 dX3_byTurns_73 rfl ?_
          exact x_iret h dX3_byTurns_88 rfl (xpE.to (by rw [byTurns_B c5 c14 c23 he]; unfold m_byTurnsB; rw [← eJ41, ← ev44, ← ev60]; first | (simp only [if_neg c63, if_neg n80]; done) | (simp only [if_neg c63, if_pos n80]; done) | (simp only [if_pos c63]; done)) (by rw [byTurns_B c5 c14 c23 he]; unfold m_byTurnsB; rw [← eJ41]; exact eJ57) rfl rfl)
      · skip
        refine x_ldcw h dX3_byTurns_26 q2114 ?_
        exact x_iret h dX3_byTurns_29 rfl (xpE.to (by subst_vars; first | with_reducible rfl | (simp only [m_byTurns, *]; done) | (simp only [m_byTurns, ix, *]; rfl) | (simp [m_byTurns, ix, up2_ap, bec_k, bec_i, *]; done)) (by subst_vars; first | with_reducible rfl | (simp only [m_byTurns, *]; done) | (simp only [m_byTurns, ix, *]; rfl) | (simp [m_byTurns, ix, up2_ap, bec_k, bec_i, *]; done)) rfl rfl)
