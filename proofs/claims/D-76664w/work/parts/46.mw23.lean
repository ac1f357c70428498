/-! WALKS OF THE REFERENCE: shelves -/
theorem m_X3_372 : xcv RX3 372 3 yX3_isRow cX3_isRow 2 (some .boolean) 1 := ⟨_, _, _, rfl, lw_V q2199 q2201 qs97 q102 q2202, rfl, by decide +kernel, by decide +kernel, by decide +kernel⟩
theorem m_X3_375 : xcs RX3 375 yX3_kept cX3_kept 3 (some .long) 2 := ⟨lw_S q2203 q2204 q102 q2205, by decide +kernel, by decide +kernel, by decide +kernel⟩
set_option maxHeartbeats 4000000 in
theorem t_trace (l : Launch) (G : xG_T) (n : Nat) (hn : 103 ≤ n) (I : xI_T) (L : xL_T) (i : Int32) (t : Nat) (ht : I 70 33 = nI t) (h9 : t < 1000) : CM l 1 yX3_trace cX3_trace 2 (some .int) G n [.ref (xb G + 70), .int i] I L (some (.int (m_trace I i))) (I) (L) := by
  refine Cg.intro (cls := RX3) (pad := 0) (lv := [some (.ref (xb G + 70)), some (.int i)]) rfl (by decide) (Nat.le_of_ble_eq_true rfl) rfl (fun Θ h => ?_)
  refine x_iload_n h dX3_trace_0 rfl ?_
  refine x_iconst h dX3_trace_1 (0) rfl ?_
  refine x_bipush h dX3_trace_2 (24) rfl ?_
  refine x_aload_n h dX3_trace_4 rfl ?_
  refine x_geti h g_X3_348 (mlt hn rfl) rfl rfl dX3_trace_5 ?_
  refine x_mmin h q1992 (by decide) ⟨by decide, by decide⟩ (Nat.le_of_ble_eq_true rfl) dX3_trace_8 ?_
  refine x_iconst h dX3_trace_11 (1) rfl ?_
  refine x_isub h dX3_trace_12 ?_
  refine x_callSEi h (As := [.int _, .int _, .int _]) (t_within l G n hn _ _ _ _ _ ) m_X3_119 dX3_trace_13 ⟨by decide, by decide⟩ ⟨by decide, by decide⟩ rfl (Nat.le_of_ble_eq_true rfl) ?_
  refine x_if_eq h 28 dX3_trace_16 rfl (fun c16 => ?_) (fun c16 => ?_)
  · skip
    refine x_iconst h dX3_trace_28 (-1) rfl ?_
    exact x_iret h dX3_trace_29 rfl (xpE.to (by unfold m_trace; first | rw [if_pos c16] | rw [if_neg c16]) rfl rfl rfl)
  · skip
    refine x_aload_n h dX3_trace_19 rfl ?_
    refine x_getr h (j := 89) g_X3_73 (mlt hn rfl) rfl (by decide) rfl dX3_trace_20 ?_
    refine x_iload_n h dX3_trace_23 rfl ?_
    refine x_iald h (mlt hn rfl) rfl (trace_in c16 ht h9) _ rfl dX3_trace_24 ?_
    refine x_goto h 29 dX3_trace_25 rfl ?_
    exact x_iret h dX3_trace_29 rfl (xpE.to (by unfold m_trace; first | rw [if_pos c16] | rw [if_neg c16]) rfl rfl rfl)
set_option maxHeartbeats 4000000 in
theorem t_keep (l : Launch) (G : xG_T) (n : Nat) (hn : 103 ≤ n) (I : xI_T) (L : xL_T) (s : Int32) (b : Int32)  : CM l 2 yX3_keep cX3_keep 3 (some .int) G n [.ref (xb G + 70), .int s, .int b] I L (some (.int ((m_keep I s b).1))) ((m_keep I s b).2) (L) := by
  refine Cg.intro (cls := RX3) (pad := 0) (lv := [some (.ref (xb G + 70)), some (.int s), some (.int b)]) rfl (by decide) (Nat.le_of_ble_eq_true rfl) rfl (fun Θ h => ?_)
  refine x_iload_n h dX3_keep_0 rfl ?_
  refine x_callSEi h (As := [.int _]) (t_isShelf l G n hn _ _ _ ) m_X3_127 dX3_keep_1 ⟨by decide, by decide⟩ ⟨by decide, by decide⟩ rfl (Nat.le_of_ble_eq_true rfl) ?_
  refine x_if_eq h 21 dX3_keep_4 rfl (fun c4 => ?_) (fun c4 => ?_)
  · skip
    refine x_iconst h dX3_keep_21 (-1) rfl ?_
    exact x_iret h dX3_keep_22 rfl (xpE.to (by subst_vars; first | with_reducible rfl | (simp only [m_keep, *]; done) | (simp only [m_keep, ix, *]; rfl) | (simp [m_keep, ix, up2_ap, bec_k, bec_i, *]; done)) (by subst_vars; first | with_reducible rfl | (simp only [m_keep, *]; done) | (simp only [m_keep, ix, *]; rfl) | (simp [m_keep, ix, up2_ap, bec_k, bec_i, *]; done)) rfl rfl)
  · skip
    refine x_iload_n h dX3_keep_7 rfl ?_
    refine x_iconst h dX3_keep_8 (-1) rfl ?_
    refine x_aload_n h dX3_keep_9 rfl ?_
    refine x_geti h g_X3_369 (mlt hn rfl) rfl rfl dX3_keep_10 ?_
    refine x_iconst h dX3_keep_13 (1) rfl ?_
    refine x_isub h dX3_keep_14 ?_
    refine x_callSEi h (As := [.int _, .int _, .int _]) (t_within l G n hn _ _ _ _ _ ) m_X3_119 dX3_keep_15 ⟨by decide, by decide⟩ ⟨by decide, by decide⟩ rfl (Nat.le_of_ble_eq_true rfl) ?_
    refine x_if_ne h 23 dX3_keep_18 rfl (fun c18 => ?_) (fun c18 => ?_)
    · skip
      refine x_aload_n h dX3_keep_23 rfl ?_
      refine x_getr h (j := 90) g_X3_76 (mlt hn rfl) rfl (by decide) rfl dX3_keep_24 ?_
      refine x_iload_n h dX3_keep_27 rfl ?_
      refine x_iload_n h dX3_keep_28 rfl ?_
      refine x_if_ge h 36 dX3_keep_29 rfl (fun c29 => ?_) (fun c29 => ?_)
      · skip
        have n29 := Int32.not_lt.mpr c29
        refine x_bipush h dX3_keep_36 (10) rfl ?_
        refine x_iload_n h dX3_keep_38 rfl ?_
        refine x_iadd h dX3_keep_39 ?_
        refine x_iast h (mlt hn rfl) rfl (xin_mono (inR_s c4) (by decide)) _ rfl dX3_keep_40 (fun J40 eJ40 => ?_)
        refine x_aload_n h dX3_keep_41 rfl ?_
        refine x_getr h (j := 91) g_X3_79 (mlt hn rfl) rfl (by decide) rfl dX3_keep_42 ?_
        refine x_iload_n h dX3_keep_45 rfl ?_
        refine x_iconst h dX3_keep_46 (0) rfl ?_
        refine x_iast h (mlt hn rfl) rfl (xin_mono (inR_s c4) (by decide)) _ rfl dX3_keep_47 (fun J47 eJ47 => ?_)
        refine x_iconst h dX3_keep_48 (1) rfl ?_
        exact x_iret h dX3_keep_49 rfl (xpE.to (by unfold m_keep; rw [if_neg c4, if_neg c18]) (by unfold m_keep; rw [if_neg c4, if_neg c18, eJ47, eJ40]; first | rw [if_pos n29] | rw [if_neg n29]) rfl rfl)
      · skip
        have n29 := Int32.not_le.mp c29
        refine x_iconst h dX3_keep_32 (-1) rfl ?_
        refine x_goto h 40 dX3_keep_33 rfl ?_
        refine x_iast h (mlt hn rfl) rfl (xin_mono (inR_s c4) (by decide)) _ rfl dX3_keep_40 (fun J40 eJ40 => ?_)
        refine x_aload_n h dX3_keep_41 rfl ?_
        refine x_getr h (j := 91) g_X3_79 (mlt hn rfl) rfl (by decide) rfl dX3_keep_42 ?_
        refine x_iload_n h dX3_keep_45 rfl ?_
        refine x_iconst h dX3_keep_46 (0) rfl ?_
        refine x_iast h (mlt hn rfl) rfl (xin_mono (inR_s c4) (by decide)) _ rfl dX3_keep_47 (fun J47 eJ47 => ?_)
        refine x_iconst h dX3_keep_48 (1) rfl ?_
        exact x_iret h dX3_keep_49 rfl (xpE.to (by unfold m_keep; rw [if_neg c4, if_neg c18]) (by unfold m_keep; rw [if_neg c4, if_neg c18, eJ47, eJ40]; first | rw [if_pos n29] | rw [if_neg n29]) rfl rfl)
    · skip
      refine x_iconst h dX3_keep_21 (-1) rfl ?_
      exact x_iret h dX3_keep_22 rfl (xpE.to (by subst_vars; first | with_reducible rfl | (simp only [m_keep, *]; done) | (simp only [m_keep, ix, *]; rfl) | (simp [m_keep, ix, up2_ap, bec_k, bec_i, *]; done)) (by subst_vars; first | with_reducible rfl | (simp only [m_keep, *]; done) | (simp only [m_keep, ix, *]; rfl) | (simp [m_keep, ix, up2_ap, bec_k, bec_i, *]; done)) rfl rfl)
set_option maxHeartbeats 4000000 in
theorem t_row (l : Launch) (G : xG_T) (n : Nat) (hn : 103 ≤ n) (I : xI_T) (L : xL_T) (s : Int32) (t : Int32) (z : Int32)  : CM l 2 yX3_row cX3_row 5 (some .int) G n [.ref (xb G + 70), .int s, .int t, .int z] I L (some (.int ((m_row I s t z).1))) ((m_row I s t z).2) (m_rowL L s t z) := by
  refine Cg.intro (cls := RX3) (pad := 1) (lv := [some (.ref (xb G + 70)), some (.int s), some (.int t), some (.int z), none]) rfl (by decide) (Nat.le_of_ble_eq_true rfl) rfl (fun Θ h => ?_)
  refine x_iload_n h dX3_row_0 rfl ?_
  refine x_callSEi h (As := [.int _]) (t_isShelf l G n hn _ _ _ ) m_X3_127 dX3_row_1 ⟨by decide, by decide⟩ ⟨by decide, by decide⟩ rfl (Nat.le_of_ble_eq_true rfl) ?_
  refine x_if_eq h 22 dX3_row_4 rfl (fun c4 => ?_) (fun c4 => ?_)
  · skip
    refine x_iconst h dX3_row_22 (-1) rfl ?_
    exact x_iret h dX3_row_23 rfl (xpE.to (by unfold m_row; first | rw [if_pos c4] | rw [if_neg c4, if_pos c13] | rw [if_neg c4, if_neg c13, if_pos (Int32.not_le.mp c19)]) (by unfold m_row; first | rw [if_pos c4] | rw [if_neg c4, if_pos c13] | rw [if_neg c4, if_neg c13, if_pos (Int32.not_le.mp c19)]) (by unfold m_rowL; first | rw [if_pos c4] | rw [if_neg c4, if_pos c13] | rw [if_neg c4, if_neg c13, if_pos (Int32.not_le.mp c19)]) rfl)
  · skip
    refine x_iload_n h dX3_row_7 rfl ?_
    refine x_iconst h dX3_row_8 (0) rfl ?_
    refine x_iconst h dX3_row_9 (4) rfl ?_
    refine x_callSEi h (As := [.int _, .int _, .int _]) (t_within l G n hn _ _ _ _ _ ) m_X3_119 dX3_row_10 ⟨by decide, by decide⟩ ⟨by decide, by decide⟩ rfl (Nat.le_of_ble_eq_true rfl) ?_
    refine x_if_eq h 22 dX3_row_13 rfl (fun c13 => ?_) (fun c13 => ?_)
    · skip
      refine x_iconst h dX3_row_22 (-1) rfl ?_
      exact x_iret h dX3_row_23 rfl (xpE.to (by unfold m_row; first | rw [if_pos c4] | rw [if_neg c4, if_pos c13] | rw [if_neg c4, if_neg c13, if_pos (Int32.not_le.mp c19)]) (by unfold m_row; first | rw [if_pos c4] | rw [if_neg c4, if_pos c13] | rw [if_neg c4, if_neg c13, if_pos (Int32.not_le.mp c19)]) (by unfold m_rowL; first | rw [if_pos c4] | rw [if_neg c4, if_pos c13] | rw [if_neg c4, if_neg c13, if_pos (Int32.not_le.mp c19)]) rfl)
    · skip
      refine x_iload_n h dX3_row_16 rfl ?_
      refine x_bipush h dX3_row_17 (60) rfl ?_
      refine x_icmp_le h 24 dX3_row_19 rfl (fun c19 => ?_) (fun c19 => ?_)
      · skip
        refine x_iload_n h dX3_row_24 rfl ?_
        refine x_if_ge h 31 dX3_row_25 rfl (fun c25 => ?_) (fun c25 => ?_)
        · skip
          have n25 := Int32.not_lt.mpr c25
          refine x_aload_n h dX3_row_31 rfl ?_
          refine x_getr h (j := 90) g_X3_76 (mlt hn rfl) rfl (by decide) rfl dX3_row_32 ?_
          refine x_iload_n h dX3_row_35 rfl ?_
          refine x_iload_n h dX3_row_36 rfl ?_
          refine x_iast h (mlt hn rfl) rfl (xin_mono (inR_s c4) (by decide)) _ rfl dX3_row_37 (fun J37 eJ37 => ?_)
          refine x_aload_n h dX3_row_38 rfl ?_
          refine x_getr h (j := 91) g_X3_79 (mlt hn rfl) rfl (by decide) rfl dX3_row_39 ?_
          refine x_iload_n h dX3_row_42 rfl ?_
          refine x_iload_n h dX3_row_43 rfl ?_
          refine x_iast h (mlt hn rfl) rfl (xin_mono (inR_s c4) (by decide)) _ rfl dX3_row_44 (fun J44 eJ44 => ?_)
          refine x_iconst h dX3_row_45 (0) rfl ?_
          refine x_istore h dX3_row_46 (by decide) [some (.ref (xb G + 70)), some (.int s), some (.int t), some (.int z), some (.int 0)] rfl ?_
          obtain ⟨s2, hs2, rfl⟩ := vp_in_of (inR_s c4) (by decide)
          have es2 : ix (nI s2) = s2 := ix_n (by omega)
          have lp48 : ∀ (d : Nat) (k : Nat) (M : xL_T), 60 - k < d → (k ≤ 60) → (M = fillL L (60 * s2) k) → X Θ 0 0 n TyM J44 M FM 48 [some (.ref (xb G + 70)), some (.int (nI s2)), some (.int t), some (.int z), some (.int (nI k))] [] := by
            intro d
            induction d with
            | zero =>
              intro k M hlt
              exact absurd hlt (Nat.not_lt_zero _)
            | succ d ih =>
              intro k M hlt hk hM
              refine x_iload h dX3_row_48 rfl ?_
              refine x_bipush h dX3_row_50 (60) rfl ?_
              refine x_icmp_ge h 74 dX3_row_52 rfl (fun c52 => ?_) (fun c52 => ?_)
              · skip
                have hkN : k = 60 := Nat.le_antisymm hk (nleN rfl (by decide) (by omega) c52)
                refine x_iconst h dX3_row_74 (1) rfl ?_
                exact x_iret h dX3_row_75 rfl (xpE.to (by unfold m_row; rw [if_neg c4, if_neg c13, if_neg (Int32.not_lt.mpr c19), if_neg n25]) (by unfold m_row; rw [if_neg c4, if_neg c13, if_neg (Int32.not_lt.mpr c19), if_neg n25, eJ44, eJ37]) (by unfold m_rowL; rw [if_neg c4, if_neg c13, if_neg (Int32.not_lt.mpr c19), if_neg n25, hM, hkN, es2]) rfl)
              · skip
                have hkN : k < 60 := nltN rfl (by decide) (by omega) c52
                refine x_aload_n h dX3_row_55 rfl ?_
                refine x_getr h (j := 92) g_X3_82 (mlt hn rfl) rfl (by decide) rfl dX3_row_56 ?_
                refine x_bipush h dX3_row_59 (60) rfl ?_
                refine x_iload_n h dX3_row_61 rfl ?_
                refine x_imulE h (nI (60 * s2)) (pk_mul 60 s2) dX3_row_62 ?_
                refine x_iload h dX3_row_63 rfl ?_
                refine x_iaddE h (nI (60 * s2 + k)) (nI_add (60 * s2) k) dX3_row_65 ?_
                refine x_lconst h dX3_row_66 (0) rfl ?_
                refine x_last h (mlt hn rfl) rfl (vp_in_nI (by omega) (by first | decide | omega)) (60 * s2 + k) (nI_clamp (by omega)) dX3_row_67 (fun M67 eM67 => ?_)
                refine x_iinc h dX3_row_68 (by decide) rfl (nI (k + 1)) (nI_1 k) [some (.ref (xb G + 70)), some (.int (nI s2)), some (.int t), some (.int z), some (.int (nI (k + 1)))] rfl ?_
                refine x_goto h 48 dX3_row_71 rfl ?_
                exact ih (k + 1) M67 (by omega) (by omega) (by rw [eM67, hM]; exact fillL_up)
          exact lp48 61 0 L (by decide) (by decide) fillL_z.symm
        · skip
          have n25 := Int32.not_le.mp c25
          refine x_bipush h dX3_row_28 (-14) rfl ?_
          exact x_iret h dX3_row_30 rfl (xpE.to (by unfold m_row; rw [if_neg c4, if_neg c13, if_neg (Int32.not_lt.mpr c19), if_pos n25]) (by unfold m_row; rw [if_neg c4, if_neg c13, if_neg (Int32.not_lt.mpr c19), if_pos n25]) (by unfold m_rowL; rw [if_neg c4, if_neg c13, if_neg (Int32.not_lt.mpr c19), if_pos n25]) rfl)
      · skip
        refine x_iconst h dX3_row_22 (-1) rfl ?_
        exact x_iret h dX3_row_23 rfl (xpE.to (by unfold m_row; first | rw [if_pos c4] | rw [if_neg c4, if_pos c13] | rw [if_neg c4, if_neg c13, if_pos (Int32.not_le.mp c19)]) (by unfold m_row; first | rw [if_pos c4] | rw [if_neg c4, if_pos c13] | rw [if_neg c4, if_neg c13, if_pos (Int32.not_le.mp c19)]) (by unfold m_rowL; first | rw [if_pos c4] | rw [if_neg c4, if_pos c13] | rw [if_neg c4, if_neg c13, if_pos (Int32.not_le.mp c19)]) rfl)
set_option maxHeartbeats 4000000 in
theorem t_isRow (l : Launch) (G : xG_T) (n : Nat) (hn : 103 ≤ n) (I : xI_T) (L : xL_T) (s : Int32) (hs : vp_in s 6) : CM l 1 yX3_isRow cX3_isRow 2 (some .boolean) G n [.ref (xb G + 70), .int s] I L (some (.int (m_isRow I s))) (I) (L) := by
  refine Cg.intro (cls := RX3) (pad := 0) (lv := [some (.ref (xb G + 70)), some (.int s)]) rfl (by decide) (Nat.le_of_ble_eq_true rfl) rfl (fun Θ h => ?_)
  refine x_aload_n h dX3_isRow_0 rfl ?_
  refine x_getr h (j := 90) g_X3_76 (mlt hn rfl) rfl (by decide) rfl dX3_isRow_1 ?_
  refine x_iload_n h dX3_isRow_4 rfl ?_
  refine x_iald h (mlt hn rfl) rfl hs _ rfl dX3_isRow_5 ?_
  refine x_iconst h dX3_isRow_6 (0) rfl ?_
  refine x_iconst h dX3_isRow_7 (4) rfl ?_
  refine x_callSEi h (As := [.int _, .int _, .int _]) (t_within l G n hn _ _ _ _ _ ) m_X3_119 dX3_isRow_8 ⟨by decide, by decide⟩ ⟨by decide, by decide⟩ rfl (Nat.le_of_ble_eq_true rfl) ?_
  exact x_zret h dX3_isRow_11 (nar01 inR_01) rfl (xpE.to rfl rfl rfl rfl)
set_option maxHeartbeats 4000000 in
theorem t_kept (l : Launch) (G : xG_T) (n : Nat) (hn : 103 ≤ n) (I : xI_T) (L : xL_T) (t : Int32) (v : Int64)  : CM l 0 yX3_kept cX3_kept 3 (some .long) G n [.int t, .long v] I L (some (.long (m_kept t v))) (I) (L) := by
  refine Cg.intro (cls := RX3) (pad := 0) (lv := [some (.int t), some (.long v), none]) rfl (by decide) (Nat.le_of_ble_eq_true rfl) rfl (fun Θ h => ?_)
  refine x_iload_n h dX3_kept_0 rfl ?_
  by_cases s1_0 : t = 0
  · skip
    refine x_tabIn h 32 dX3_kept_1 (by rw [s1_0]; decide) (by rw [s1_0]; decide) (by rw [s1_0]; rfl) rfl ?_
    refine x_lload_n h dX3_kept_32 rfl ?_
    refine x_l2i h dX3_kept_33 ?_
    refine x_i2b h dX3_kept_34 ?_
    refine x_i2l h dX3_kept_35 ?_
    exact x_lret h dX3_kept_36 rfl (xpE.to (by subst_vars; first | with_reducible rfl | (simp only [m_kept, *]; done) | (simp only [m_kept, ix, *]; rfl) | (simp [m_kept, ix, up2_ap, bec_k, bec_i, *]; done)) (by subst_vars; first | with_reducible rfl | (simp only [m_kept, *]; done) | (simp only [m_kept, ix, *]; rfl) | (simp [m_kept, ix, up2_ap, bec_k, bec_i, *]; done)) rfl rfl)
  by_cases s1_1 : t = 1
  · skip
    refine x_tabIn h 37 dX3_kept_1 (by rw [s1_1]; decide) (by rw [s1_1]; decide) (by rw [s1_1]; rfl) rfl ?_
    refine x_lload_n h dX3_kept_37 rfl ?_
    refine x_l2i h dX3_kept_38 ?_
    refine x_i2s h dX3_kept_39 ?_
    refine x_i2l h dX3_kept_40 ?_
    exact x_lret h dX3_kept_41 rfl (xpE.to (by subst_vars; first | with_reducible rfl | (simp only [m_kept, *]; done) | (simp only [m_kept, ix, *]; rfl) | (simp [m_kept, ix, up2_ap, bec_k, bec_i, *]; done)) (by subst_vars; first | with_reducible rfl | (simp only [m_kept, *]; done) | (simp only [m_kept, ix, *]; rfl) | (simp [m_kept, ix, up2_ap, bec_k, bec_i, *]; done)) rfl rfl)
  by_cases s1_2 : t = 2
  · skip
    refine x_tabIn h 42 dX3_kept_1 (by rw [s1_2]; decide) (by rw [s1_2]; decide) (by rw [s1_2]; rfl) rfl ?_
    refine x_lload_n h dX3_kept_42 rfl ?_
    refine x_l2i h dX3_kept_43 ?_
    refine x_i2l h dX3_kept_44 ?_
    exact x_lret h dX3_kept_45 rfl (xpE.to (by subst_vars; first | with_reducible rfl | (simp only [m_kept, *]; done) | (simp only [m_kept, ix, *]; rfl) | (simp [m_kept, ix, up2_ap, bec_k, bec_i, *]; done)) (by subst_vars; first | with_reducible rfl | (simp only [m_kept, *]; done) | (simp only [m_kept, ix, *]; rfl) | (simp [m_kept, ix, up2_ap, bec_k, bec_i, *]; done)) rfl rfl)
  by_cases s1_3 : t = 3
  · skip
    refine x_tabIn h 46 dX3_kept_1 (by rw [s1_3]; decide) (by rw [s1_3]; decide) (by rw [s1_3]; rfl) rfl ?_
    refine x_lload_n h dX3_kept_46 rfl ?_
    exact x_lret h dX3_kept_47 rfl (xpE.to (by subst_vars; first | with_reducible rfl | (simp only [m_kept, *]; done) | (simp only [m_kept, ix, *]; rfl) | (simp [m_kept, ix, up2_ap, bec_k, bec_i, *]; done)) (by subst_vars; first | with_reducible rfl | (simp only [m_kept, *]; done) | (simp only [m_kept, ix, *]; rfl) | (simp [m_kept, ix, up2_ap, bec_k, bec_i, *]; done)) rfl rfl)
  refine x_tabD h 48 dX3_kept_1 rfl (fun j hj => match j, hj with | 0, _ => Or.inr (xsw_ne s1_0 rfl) | 1, _ => Or.inr (xsw_ne s1_1 rfl) | 2, _ => Or.inr (xsw_ne s1_2 rfl) | 3, _ => Or.inr (xsw_ne s1_3 rfl) | j + 4, hj => absurd hj (by simp)) rfl ?_
  refine x_lload_n h dX3_kept_48 rfl ?_
  refine x_lconst h dX3_kept_49 (0) rfl ?_
  refine x_lcmp h dX3_kept_50 ?_
  refine x_if_eq h 58 dX3_kept_51 rfl (fun c51 => ?_) (fun c51 => ?_)
  · skip
    refine x_lconst h dX3_kept_58 (0) rfl ?_
    exact x_lret h dX3_kept_59 rfl (xpE.to (by unfold m_kept; rw [if_neg s1_0, if_neg s1_1, if_neg s1_2, if_neg s1_3]; first | rw [if_pos ((lg_cmp_eq _ _).mp c51)] | rw [if_neg (fun q => c51 ((lg_cmp_eq _ _).mpr q))]) rfl rfl rfl)
  · skip
    refine x_lconst h dX3_kept_54 (1) rfl ?_
    refine x_goto h 59 dX3_kept_55 rfl ?_
    exact x_lret h dX3_kept_59 rfl (xpE.to (by unfold m_kept; rw [if_neg s1_0, if_neg s1_1, if_neg s1_2, if_neg s1_3]; first | rw [if_pos ((lg_cmp_eq _ _).mp c51)] | rw [if_neg (fun q => c51 ((lg_cmp_eq _ _).mpr q))]) rfl rfl rfl)
set_option maxHeartbeats 4000000 in
theorem t_put (l : Launch) (G : xG_T) (n : Nat) (hn : 103 ≤ n) (I : xI_T) (L : xL_T) (s : Int32) (i : Int32) (v : Int64) (hL : Wsh I) : CM l 2 yX3_put cX3_put 5 (some .int) G n [.ref (xb G + 70), .int s, .int i, .long v] I L (some (.int (m_put I s i))) (I) (m_putL I L s i v) := by
  refine Cg.intro (cls := RX3) (pad := 0) (lv := [some (.ref (xb G + 70)), some (.int s), some (.int i), some (.long v), none]) rfl (by decide) (Nat.le_of_ble_eq_true rfl) rfl (fun Θ h => ?_)
  refine x_iload_n h dX3_put_0 rfl ?_
  refine x_callSEi h (As := [.int _]) (t_isShelf l G n hn _ _ _ ) m_X3_127 dX3_put_1 ⟨by decide, by decide⟩ ⟨by decide, by decide⟩ rfl (Nat.le_of_ble_eq_true rfl) ?_
  refine x_if_ne h 9 dX3_put_4 rfl (fun c4 => ?_) (fun c4 => ?_)
  · skip
    have hs := inR_s c4
    refine x_aload_n h dX3_put_9 rfl ?_
    refine x_getr h (j := 90) g_X3_76 (mlt hn rfl) rfl (by decide) rfl dX3_put_10 ?_
    refine x_iload_n h dX3_put_13 rfl ?_
    refine x_iald h (mlt hn rfl) rfl hs _ rfl dX3_put_14 ?_
    refine x_iconst h dX3_put_15 (-1) rfl ?_
    refine x_icmp_ne h 22 dX3_put_16 rfl (fun c16 => ?_) (fun c16 => ?_)
    · skip
      refine x_aload_n h dX3_put_22 rfl ?_
      refine x_iload_n h dX3_put_23 rfl ?_
      refine x_callVEi h (As := [.int _]) (t_isRow l G n hn _ _ _ hs) m_X3_372 (mlt hn rfl) rfl dX3_put_24 ⟨by decide, by decide⟩ ⟨by decide, by decide⟩ rfl (Nat.le_of_ble_eq_true rfl) ?_
      refine x_if_ne h 33 dX3_put_27 rfl (fun c27 => ?_) (fun c27 => ?_)
      · skip
        refine x_iload_n h dX3_put_33 rfl ?_
        refine x_iconst h dX3_put_34 (0) rfl ?_
        refine x_aload_n h dX3_put_35 rfl ?_
        refine x_getr h (j := 91) g_X3_79 (mlt hn rfl) rfl (by decide) rfl dX3_put_36 ?_
        refine x_iload_n h dX3_put_39 rfl ?_
        refine x_iald h (mlt hn rfl) rfl hs _ rfl dX3_put_40 ?_
        refine x_iconst h dX3_put_41 (1) rfl ?_
        refine x_isub h dX3_put_42 ?_
        refine x_callSEi h (As := [.int _, .int _, .int _]) (t_within l G n hn _ _ _ _ _ ) m_X3_119 dX3_put_43 ⟨by decide, by decide⟩ ⟨by decide, by decide⟩ rfl (Nat.le_of_ble_eq_true rfl) ?_
        refine x_if_ne h 52 dX3_put_46 rfl (fun c46 => ?_) (fun c46 => ?_)
        · skip
          have hi := row_in (hL s hs) c46
          refine x_aload_n h dX3_put_52 rfl ?_
          refine x_getr h (j := 92) g_X3_82 (mlt hn rfl) rfl (by decide) rfl dX3_put_53 ?_
          refine x_bipush h dX3_put_56 (60) rfl ?_
          refine x_iload_n h dX3_put_58 rfl ?_
          refine x_imul h dX3_put_59 ?_
          refine x_iload_n h dX3_put_60 rfl ?_
          refine x_iadd h dX3_put_61 ?_
          refine x_aload_n h dX3_put_62 rfl ?_
          refine x_getr h (j := 90) g_X3_76 (mlt hn rfl) rfl (by decide) rfl dX3_put_63 ?_
          refine x_iload_n h dX3_put_66 rfl ?_
          refine x_iald h (mlt hn rfl) rfl hs _ rfl dX3_put_67 ?_
          refine x_lload_n h dX3_put_68 rfl ?_
          refine x_callSEl h (As := [.int _, .long _]) (t_kept l G n hn _ _ _ _ ) m_X3_375 dX3_put_69 ⟨by decide, by decide⟩ ⟨by decide, by decide⟩ rfl (Nat.le_of_ble_eq_true rfl) ?_
          refine x_last h (mlt hn rfl) rfl (told_in hs hi.1) (60 * ix s + ix i) (ix_60 hs hi.1) dX3_put_72 (fun M72 eM72 => ?_)
          refine x_iconst h dX3_put_73 (1) rfl ?_
          exact x_iret h dX3_put_74 rfl (xpE.to (by unfold m_put; rw [if_neg c4, if_neg c16, if_neg c27, if_neg c46]) rfl (by rw [putL_1 (by unfold m_put; rw [if_neg c4, if_neg c16, if_neg c27, if_neg c46]), eM72]) rfl)
        · skip
          refine x_bipush h dX3_put_49 (-13) rfl ?_
          exact x_iret h dX3_put_51 rfl (xpE.to (by unfold m_put; rw [if_neg c4, if_neg c16, if_neg c27, if_pos c46]) rfl (putL_0 (by unfold m_put; rw [if_neg c4, if_neg c16, if_neg c27, if_pos c46]; decide)) rfl)
      · skip
        refine x_bipush h dX3_put_30 (-12) rfl ?_
        exact x_iret h dX3_put_32 rfl (xpE.to (by unfold m_put; rw [if_neg c4, if_neg c16, if_pos c27]) rfl (putL_0 (by unfold m_put; rw [if_neg c4, if_neg c16, if_pos c27]; decide)) rfl)
    · skip
      refine x_bipush h dX3_put_19 (-11) rfl ?_
      exact x_iret h dX3_put_21 rfl (xpE.to (by unfold m_put; rw [if_neg c4, if_pos c16]) rfl (putL_0 (by unfold m_put; rw [if_neg c4, if_pos c16]; decide)) rfl)
  · skip
    refine x_iconst h dX3_put_7 (-1) rfl ?_
    exact x_iret h dX3_put_8 rfl (xpE.to (by unfold m_put; rw [if_pos c4]) rfl (putL_0 (by unfold m_put; rw [if_pos c4]; decide)) rfl)
set_option maxHeartbeats 4000000 in
theorem t_element (l : Launch) (G : xG_T) (n : Nat) (hn : 103 ≤ n) (I : xI_T) (L : xL_T) (s : Int32) (i : Int32) (hL : Wsh I) : CM l 2 yX3_element cX3_element 3 (some .long) G n [.ref (xb G + 70), .int s, .int i] I L (some (.long (m_elem I L s i))) (I) (L) := by
  refine Cg.intro (cls := RX3) (pad := 0) (lv := [some (.ref (xb G + 70)), some (.int s), some (.int i)]) rfl (by decide) (Nat.le_of_ble_eq_true rfl) rfl (fun Θ h => ?_)
  refine x_iload_n h dX3_element_0 rfl ?_
  refine x_callSEi h (As := [.int _]) (t_isShelf l G n hn _ _ _ ) m_X3_127 dX3_element_1 ⟨by decide, by decide⟩ ⟨by decide, by decide⟩ rfl (Nat.le_of_ble_eq_true rfl) ?_
  refine x_if_eq h 45 dX3_element_4 rfl (fun c4 => ?_) (fun c4 => ?_)
  · skip
    refine x_ldc2 h dX3_element_45 q2210 ?_
    exact x_lret h dX3_element_48 rfl (xpE.to (by unfold m_elem; first | rw [if_pos c4] | rw [if_neg c4, if_pos c12] | rw [if_neg c4, if_neg c12, if_pos c28] | rw [if_neg c4, if_neg c12, if_neg c28]) rfl rfl rfl)
  · skip
    have hs := inR_s c4
    refine x_aload_n h dX3_element_7 rfl ?_
    refine x_iload_n h dX3_element_8 rfl ?_
    refine x_callVEi h (As := [.int _]) (t_isRow l G n hn _ _ _ hs) m_X3_372 (mlt hn rfl) rfl dX3_element_9 ⟨by decide, by decide⟩ ⟨by decide, by decide⟩ rfl (Nat.le_of_ble_eq_true rfl) ?_
    refine x_if_eq h 45 dX3_element_12 rfl (fun c12 => ?_) (fun c12 => ?_)
    · skip
      refine x_ldc2 h dX3_element_45 q2210 ?_
      exact x_lret h dX3_element_48 rfl (xpE.to (by unfold m_elem; first | rw [if_pos c4] | rw [if_neg c4, if_pos c12] | rw [if_neg c4, if_neg c12, if_pos c28] | rw [if_neg c4, if_neg c12, if_neg c28]) rfl rfl rfl)
    · skip
      refine x_iload_n h dX3_element_15 rfl ?_
      refine x_iconst h dX3_element_16 (0) rfl ?_
      refine x_aload_n h dX3_element_17 rfl ?_
      refine x_getr h (j := 91) g_X3_79 (mlt hn rfl) rfl (by decide) rfl dX3_element_18 ?_
      refine x_iload_n h dX3_element_21 rfl ?_
      refine x_iald h (mlt hn rfl) rfl hs _ rfl dX3_element_22 ?_
      refine x_iconst h dX3_element_23 (1) rfl ?_
      refine x_isub h dX3_element_24 ?_
      refine x_callSEi h (As := [.int _, .int _, .int _]) (t_within l G n hn _ _ _ _ _ ) m_X3_119 dX3_element_25 ⟨by decide, by decide⟩ ⟨by decide, by decide⟩ rfl (Nat.le_of_ble_eq_true rfl) ?_
      refine x_if_eq h 45 dX3_element_28 rfl (fun c28 => ?_) (fun c28 => ?_)
      · skip
        refine x_ldc2 h dX3_element_45 q2210 ?_
        exact x_lret h dX3_element_48 rfl (xpE.to (by unfold m_elem; first | rw [if_pos c4] | rw [if_neg c4, if_pos c12] | rw [if_neg c4, if_neg c12, if_pos c28] | rw [if_neg c4, if_neg c12, if_neg c28]) rfl rfl rfl)
      · skip
        have hi := row_in (hL s hs) c28
        refine x_aload_n h dX3_element_31 rfl ?_
        refine x_getr h (j := 92) g_X3_82 (mlt hn rfl) rfl (by decide) rfl dX3_element_32 ?_
        refine x_bipush h dX3_element_35 (60) rfl ?_
        refine x_iload_n h dX3_element_37 rfl ?_
        refine x_imul h dX3_element_38 ?_
        refine x_iload_n h dX3_element_39 rfl ?_
        refine x_iadd h dX3_element_40 ?_
        refine x_lald h (mlt hn rfl) rfl (told_in hs hi.1) (60 * ix s + ix i) (ix_60 hs hi.1) dX3_element_41 ?_
        refine x_goto h 48 dX3_element_42 rfl ?_
        exact x_lret h dX3_element_48 rfl (xpE.to (by unfold m_elem; first | rw [if_pos c4] | rw [if_neg c4, if_pos c12] | rw [if_neg c4, if_neg c12, if_pos c28] | rw [if_neg c4, if_neg c12, if_neg c28]) rfl rfl rfl)
set_option maxHeartbeats 4000000 in
theorem t_count (l : Launch) (G : xG_T) (n : Nat) (hn : 103 ≤ n) (I : xI_T) (L : xL_T) (w : Int32)  : CM l 0 yX3_count cX3_count 2 (some .int) G n [.ref (xb G + 70), .int w] I L (some (.int (m_count I w))) (I) (L) := by
  refine Cg.intro (cls := RX3) (pad := 0) (lv := [some (.ref (xb G + 70)), some (.int w)]) rfl (by decide) (Nat.le_of_ble_eq_true rfl) rfl (fun Θ h => ?_)
  refine x_iload_n h dX3_count_0 rfl ?_
  by_cases s1_0 : w = 0
  · skip
    refine x_tabIn h 40 dX3_count_1 (by rw [s1_0]; decide) (by rw [s1_0]; decide) (by rw [s1_0]; rfl) rfl ?_
    refine x_aload_n h dX3_count_40 rfl ?_
    refine x_geti h g_X3_116 (mlt hn rfl) rfl rfl dX3_count_41 ?_
    exact x_iret h dX3_count_44 rfl (xpE.to (by subst_vars; first | with_reducible rfl | (simp only [m_count, *]; done) | (simp only [m_count, ix, *]; rfl) | (simp [m_count, ix, up2_ap, bec_k, bec_i, *]; done)) (by subst_vars; first | with_reducible rfl | (simp only [m_count, *]; done) | (simp only [m_count, ix, *]; rfl) | (simp [m_count, ix, up2_ap, bec_k, bec_i, *]; done)) rfl rfl)
  by_cases s1_1 : w = 1
  · skip
    refine x_tabIn h 45 dX3_count_1 (by rw [s1_1]; decide) (by rw [s1_1]; decide) (by rw [s1_1]; rfl) rfl ?_
    refine x_aload_n h dX3_count_45 rfl ?_
    refine x_getr h (j := 72) g_X3_22 (mlt hn rfl) rfl (by decide) rfl dX3_count_46 ?_
    refine x_bipush h dX3_count_49 (18) rfl ?_
    refine x_iald h (mlt hn rfl) rfl (xk rfl) 18 rfl dX3_count_51 ?_
    exact x_iret h dX3_count_52 rfl (xpE.to (by subst_vars; first | with_reducible rfl | (simp only [m_count, *]; done) | (simp only [m_count, ix, *]; rfl) | (simp [m_count, ix, up2_ap, bec_k, bec_i, *]; done)) (by subst_vars; first | with_reducible rfl | (simp only [m_count, *]; done) | (simp only [m_count, ix, *]; rfl) | (simp [m_count, ix, up2_ap, bec_k, bec_i, *]; done)) rfl rfl)
  by_cases s1_2 : w = 2
  · skip
    refine x_tabIn h 53 dX3_count_1 (by rw [s1_2]; decide) (by rw [s1_2]; decide) (by rw [s1_2]; rfl) rfl ?_
    refine x_aload_n h dX3_count_53 rfl ?_
    refine x_geti h g_X3_160 (mlt hn rfl) rfl rfl dX3_count_54 ?_
    exact x_iret h dX3_count_57 rfl (xpE.to (by subst_vars; first | with_reducible rfl | (simp only [m_count, *]; done) | (simp only [m_count, ix, *]; rfl) | (simp [m_count, ix, up2_ap, bec_k, bec_i, *]; done)) (by subst_vars; first | with_reducible rfl | (simp only [m_count, *]; done) | (simp only [m_count, ix, *]; rfl) | (simp [m_count, ix, up2_ap, bec_k, bec_i, *]; done)) rfl rfl)
  by_cases s1_3 : w = 3
  · skip
    refine x_tabIn h 58 dX3_count_1 (by rw [s1_3]; decide) (by rw [s1_3]; decide) (by rw [s1_3]; rfl) rfl ?_
    refine x_aload_n h dX3_count_58 rfl ?_
    refine x_geti h g_X3_154 (mlt hn rfl) rfl rfl dX3_count_59 ?_
    exact x_iret h dX3_count_62 rfl (xpE.to (by subst_vars; first | with_reducible rfl | (simp only [m_count, *]; done) | (simp only [m_count, ix, *]; rfl) | (simp [m_count, ix, up2_ap, bec_k, bec_i, *]; done)) (by subst_vars; first | with_reducible rfl | (simp only [m_count, *]; done) | (simp only [m_count, ix, *]; rfl) | (simp [m_count, ix, up2_ap, bec_k, bec_i, *]; done)) rfl rfl)
  by_cases s1_4 : w = 4
  · skip
    refine x_tabIn h 63 dX3_count_1 (by rw [s1_4]; decide) (by rw [s1_4]; decide) (by rw [s1_4]; rfl) rfl ?_
    refine x_aload_n h dX3_count_63 rfl ?_
    refine x_geti h g_X3_369 (mlt hn rfl) rfl rfl dX3_count_64 ?_
    exact x_iret h dX3_count_67 rfl (xpE.to (by subst_vars; first | with_reducible rfl | (simp only [m_count, *]; done) | (simp only [m_count, ix, *]; rfl) | (simp [m_count, ix, up2_ap, bec_k, bec_i, *]; done)) (by subst_vars; first | with_reducible rfl | (simp only [m_count, *]; done) | (simp only [m_count, ix, *]; rfl) | (simp [m_count, ix, up2_ap, bec_k, bec_i, *]; done)) rfl rfl)
  by_cases s1_5 : w = 5
  · skip
    refine x_tabIn h 68 dX3_count_1 (by rw [s1_5]; decide) (by rw [s1_5]; decide) (by rw [s1_5]; rfl) rfl ?_
    refine x_aload_n h dX3_count_68 rfl ?_
    refine x_geti h g_X3_348 (mlt hn rfl) rfl rfl dX3_count_69 ?_
    exact x_iret h dX3_count_72 rfl (xpE.to (by subst_vars; first | with_reducible rfl | (simp only [m_count, *]; done) | (simp only [m_count, ix, *]; rfl) | (simp [m_count, ix, up2_ap, bec_k, bec_i, *]; done)) (by subst_vars; first | with_reducible rfl | (simp only [m_count, *]; done) | (simp only [m_count, ix, *]; rfl) | (simp [m_count, ix, up2_ap, bec_k, bec_i, *]; done)) rfl rfl)
  refine x_tabD h 73 dX3_count_1 rfl (fun j hj => match j, hj with | 0, _ => Or.inr (xsw_ne s1_0 rfl) | 1, _ => Or.inr (xsw_ne s1_1 rfl) | 2, _ => Or.inr (xsw_ne s1_2 rfl) | 3, _ => Or.inr (xsw_ne s1_3 rfl) | 4, _ => Or.inr (xsw_ne s1_4 rfl) | 5, _ => Or.inr (xsw_ne s1_5 rfl) | j + 6, hj => absurd hj (by simp)) rfl ?_
  refine x_iconst h dX3_count_73 (-1) rfl ?_
  exact x_iret h dX3_count_74 rfl (xpE.to (by subst_vars; first | with_reducible rfl | (simp only [m_count, *]; done) | (simp only [m_count, ix, *]; rfl) | (simp [m_count, ix, up2_ap, bec_k, bec_i, *]; done)) (by subst_vars; first | with_reducible rfl | (simp only [m_count, *]; done) | (simp only [m_count, ix, *]; rfl) | (simp [m_count, ix, up2_ap, bec_k, bec_i, *]; done)) rfl rfl)
set_option maxHeartbeats 4000000 in
theorem t_shift (l : Launch) (G : xG_T) (n : Nat) (hn : 103 ≤ n) (I : xI_T) (L : xL_T) (s : Int32) (i : Int32) (t : Int32) (j : Int32) (z : Int32) (hL : Wsh I) : CM l 2 yX3_shift cX3_shift 7 (some .int) G n [.ref (xb G + 70), .int s, .int i, .int t, .int j, .int z] I L (some (.int (m_shiftC I s i t j z))) (I) (m_shiftL I L s i t j z) := by
  refine Cg.intro (cls := RX3) (pad := 1) (lv := [some (.ref (xb G + 70)), some (.int s), some (.int i), some (.int t), some (.int j), some (.int z), none]) rfl (by decide) (Nat.le_of_ble_eq_true rfl) rfl (fun Θ h => ?_)
  refine x_iload_n h dX3_shift_0 rfl ?_
  refine x_callSEi h (As := [.int _]) (t_isShelf l G n hn _ _ _ ) m_X3_127 dX3_shift_1 ⟨by decide, by decide⟩ ⟨by decide, by decide⟩ rfl (Nat.le_of_ble_eq_true rfl) ?_
  refine x_if_eq h 14 dX3_shift_4 rfl (fun c4 => ?_) (fun c4 => ?_)
  · skip
    refine x_iconst h dX3_shift_14 (-1) rfl ?_
    exact x_iret h dX3_shift_15 rfl (xpE.to (by unfold m_shiftC; first | rw [if_pos c4] | rw [if_neg c4, if_pos c11]) rfl (shiftL_0 (by unfold m_shiftC; first | rw [if_pos c4] | rw [if_neg c4, if_pos c11]) (by decide)) rfl)
  · skip
    have hs := inR_s c4
    refine x_iload_n h dX3_shift_7 rfl ?_
    refine x_callSEi h (As := [.int _]) (t_isShelf l G n hn _ _ _ ) m_X3_127 dX3_shift_8 ⟨by decide, by decide⟩ ⟨by decide, by decide⟩ rfl (Nat.le_of_ble_eq_true rfl) ?_
    refine x_if_ne h 16 dX3_shift_11 rfl (fun c11 => ?_) (fun c11 => ?_)
    · skip
      have ht := inR_s c11
      refine x_aload_n h dX3_shift_16 rfl ?_
      refine x_getr h (j := 90) g_X3_76 (mlt hn rfl) rfl (by decide) rfl dX3_shift_17 ?_
      refine x_iload_n h dX3_shift_20 rfl ?_
      refine x_iald h (mlt hn rfl) rfl hs _ rfl dX3_shift_21 ?_
      refine x_iconst h dX3_shift_22 (-1) rfl ?_
      refine x_icmp_eq h 36 dX3_shift_23 rfl (fun c23 => ?_) (fun c23 => ?_)
      · skip
        refine x_bipush h dX3_shift_36 (-11) rfl ?_
        exact x_iret h dX3_shift_38 rfl (xpE.to (by unfold m_shiftC; first | rw [if_neg c4, if_neg c11, if_pos c23] | rw [if_neg c4, if_neg c11, if_neg c23, if_pos c33]) rfl (shiftL_0 (by unfold m_shiftC; first | rw [if_neg c4, if_neg c11, if_pos c23] | rw [if_neg c4, if_neg c11, if_neg c23, if_pos c33]) (by decide)) rfl)
      · skip
        refine x_aload_n h dX3_shift_26 rfl ?_
        refine x_getr h (j := 90) g_X3_76 (mlt hn rfl) rfl (by decide) rfl dX3_shift_27 ?_
        refine x_iload_n h dX3_shift_30 rfl ?_
        refine x_iald h (mlt hn rfl) rfl ht _ rfl dX3_shift_31 ?_
        refine x_iconst h dX3_shift_32 (-1) rfl ?_
        refine x_icmp_ne h 39 dX3_shift_33 rfl (fun c33 => ?_) (fun c33 => ?_)
        · skip
          refine x_aload_n h dX3_shift_39 rfl ?_
          refine x_iload_n h dX3_shift_40 rfl ?_
          refine x_callVEi h (As := [.int _]) (t_isRow l G n hn _ _ _ hs) m_X3_372 (mlt hn rfl) rfl dX3_shift_41 ⟨by decide, by decide⟩ ⟨by decide, by decide⟩ rfl (Nat.le_of_ble_eq_true rfl) ?_
          refine x_if_eq h 70 dX3_shift_44 rfl (fun c44 => ?_) (fun c44 => ?_)
          · skip
            refine x_bipush h dX3_shift_70 (-12) rfl ?_
            exact x_iret h dX3_shift_72 rfl (xpE.to (by unfold m_shiftC; first | rw [if_neg c4, if_neg c11, if_neg c23, if_neg c33, if_pos c44] | rw [if_neg c4, if_neg c11, if_neg c23, if_neg c33, if_neg c44, if_pos c52] | rw [if_neg c4, if_neg c11, if_neg c23, if_neg c33, if_neg c44, if_neg c52, if_pos c67]) rfl (shiftL_0 (by unfold m_shiftC; first | rw [if_neg c4, if_neg c11, if_neg c23, if_neg c33, if_pos c44] | rw [if_neg c4, if_neg c11, if_neg c23, if_neg c33, if_neg c44, if_pos c52] | rw [if_neg c4, if_neg c11, if_neg c23, if_neg c33, if_neg c44, if_neg c52, if_pos c67]) (by decide)) rfl)
          · skip
            refine x_aload_n h dX3_shift_47 rfl ?_
            refine x_iload_n h dX3_shift_48 rfl ?_
            refine x_callVEi h (As := [.int _]) (t_isRow l G n hn _ _ _ ht) m_X3_372 (mlt hn rfl) rfl dX3_shift_49 ⟨by decide, by decide⟩ ⟨by decide, by decide⟩ rfl (Nat.le_of_ble_eq_true rfl) ?_
            refine x_if_eq h 70 dX3_shift_52 rfl (fun c52 => ?_) (fun c52 => ?_)
            · skip
              refine x_bipush h dX3_shift_70 (-12) rfl ?_
              exact x_iret h dX3_shift_72 rfl (xpE.to (by unfold m_shiftC; first | rw [if_neg c4, if_neg c11, if_neg c23, if_neg c33, if_pos c44] | rw [if_neg c4, if_neg c11, if_neg c23, if_neg c33, if_neg c44, if_pos c52] | rw [if_neg c4, if_neg c11, if_neg c23, if_neg c33, if_neg c44, if_neg c52, if_pos c67]) rfl (shiftL_0 (by unfold m_shiftC; first | rw [if_neg c4, if_neg c11, if_neg c23, if_neg c33, if_pos c44] | rw [if_neg c4, if_neg c11, if_neg c23, if_neg c33, if_neg c44, if_pos c52] | rw [if_neg c4, if_neg c11, if_neg c23, if_neg c33, if_neg c44, if_neg c52, if_pos c67]) (by decide)) rfl)
            · skip
              refine x_aload_n h dX3_shift_55 rfl ?_
              refine x_getr h (j := 90) g_X3_76 (mlt hn rfl) rfl (by decide) rfl dX3_shift_56 ?_
              refine x_iload_n h dX3_shift_59 rfl ?_
              refine x_iald h (mlt hn rfl) rfl hs _ rfl dX3_shift_60 ?_
              refine x_aload_n h dX3_shift_61 rfl ?_
              refine x_getr h (j := 90) g_X3_76 (mlt hn rfl) rfl (by decide) rfl dX3_shift_62 ?_
              refine x_iload_n h dX3_shift_65 rfl ?_
              refine x_iald h (mlt hn rfl) rfl ht _ rfl dX3_shift_66 ?_
              refine x_icmp_eq h 73 dX3_shift_67 rfl (fun c67 => ?_) (fun c67 => ?_)
              · skip
                refine x_iload h dX3_shift_73 rfl ?_
                refine x_if_lt h 122 dX3_shift_75 rfl (fun c75 => ?_) (fun c75 => ?_)
                · skip
                  have hbad : z < 0 ∨ i < 0 ∨ j < 0 ∨ (I 91 (ix s)).toInt64 < i.toInt64 + z.toInt64 ∨ (I 91 (ix t)).toInt64 < j.toInt64 + z.toInt64 := Or.inl c75
                  refine x_bipush h dX3_shift_122 (-13) rfl ?_
                  exact x_iret h dX3_shift_124 rfl (xpE.to (by unfold m_shiftC; rw [if_neg c4, if_neg c11, if_neg c23, if_neg c33, if_neg c44, if_neg c52, if_neg (not_not_intro c67), if_pos hbad]) rfl (shiftL_0 (by unfold m_shiftC; rw [if_neg c4, if_neg c11, if_neg c23, if_neg c33, if_neg c44, if_neg c52, if_neg (not_not_intro c67), if_pos hbad]) (by decide)) rfl)
                · skip
                  refine x_iload_n h dX3_shift_78 rfl ?_
                  refine x_if_lt h 122 dX3_shift_79 rfl (fun c79 => ?_) (fun c79 => ?_)
                  · skip
                    have hbad : z < 0 ∨ i < 0 ∨ j < 0 ∨ (I 91 (ix s)).toInt64 < i.toInt64 + z.toInt64 ∨ (I 91 (ix t)).toInt64 < j.toInt64 + z.toInt64 := Or.inr (Or.inl c79)
                    refine x_bipush h dX3_shift_122 (-13) rfl ?_
                    exact x_iret h dX3_shift_124 rfl (xpE.to (by unfold m_shiftC; rw [if_neg c4, if_neg c11, if_neg c23, if_neg c33, if_neg c44, if_neg c52, if_neg (not_not_intro c67), if_pos hbad]) rfl (shiftL_0 (by unfold m_shiftC; rw [if_neg c4, if_neg c11, if_neg c23, if_neg c33, if_neg c44, if_neg c52, if_neg (not_not_intro c67), if_pos hbad]) (by decide)) rfl)
                  · skip
                    refine x_iload h dX3_shift_82 rfl ?_
                    refine x_if_lt h 122 dX3_shift_84 rfl (fun c84 => ?_) (fun c84 => ?_)
                    · skip
                      have hbad : z < 0 ∨ i < 0 ∨ j < 0 ∨ (I 91 (ix s)).toInt64 < i.toInt64 + z.toInt64 ∨ (I 91 (ix t)).toInt64 < j.toInt64 + z.toInt64 := Or.inr (Or.inr (Or.inl c84))
                      refine x_bipush h dX3_shift_122 (-13) rfl ?_
                      exact x_iret h dX3_shift_124 rfl (xpE.to (by unfold m_shiftC; rw [if_neg c4, if_neg c11, if_neg c23, if_neg c33, if_neg c44, if_neg c52, if_neg (not_not_intro c67), if_pos hbad]) rfl (shiftL_0 (by unfold m_shiftC; rw [if_neg c4, if_neg c11, if_neg c23, if_neg c33, if_neg c44, if_neg c52, if_neg (not_not_intro c67), if_pos hbad]) (by decide)) rfl)
                    · skip
                      refine x_iload_n h dX3_shift_87 rfl ?_
                      refine x_i2l h dX3_shift_88 ?_
                      refine x_iload h dX3_shift_89 rfl ?_
                      refine x_i2l h dX3_shift_91 ?_
                      refine x_ladd h dX3_shift_92 ?_
                      refine x_aload_n h dX3_shift_93 rfl ?_
                      refine x_getr h (j := 91) g_X3_79 (mlt hn rfl) rfl (by decide) rfl dX3_shift_94 ?_
                      refine x_iload_n h dX3_shift_97 rfl ?_
                      refine x_iald h (mlt hn rfl) rfl hs _ rfl dX3_shift_98 ?_
                      refine x_i2l h dX3_shift_99 ?_
                      refine x_lcmp h dX3_shift_100 ?_
                      refine x_if_gt h 122 dX3_shift_101 rfl (fun c101 => ?_) (fun c101 => ?_)
                      · skip
                        have hbad : z < 0 ∨ i < 0 ∨ j < 0 ∨ (I 91 (ix s)).toInt64 < i.toInt64 + z.toInt64 ∨ (I 91 (ix t)).toInt64 < j.toInt64 + z.toInt64 := Or.inr (Or.inr (Or.inr (Or.inl ((lg_cmp_gt _ _).mp c101))))
                        refine x_bipush h dX3_shift_122 (-13) rfl ?_
                        exact x_iret h dX3_shift_124 rfl (xpE.to (by unfold m_shiftC; rw [if_neg c4, if_neg c11, if_neg c23, if_neg c33, if_neg c44, if_neg c52, if_neg (not_not_intro c67), if_pos hbad]) rfl (shiftL_0 (by unfold m_shiftC; rw [if_neg c4, if_neg c11, if_neg c23, if_neg c33, if_neg c44, if_neg c52, if_neg (not_not_intro c67), if_pos hbad]) (by decide)) rfl)
                      · skip
                        refine x_iload h dX3_shift_104 rfl ?_
                        refine x_i2l h dX3_shift_106 ?_
                        refine x_iload h dX3_shift_107 rfl ?_
                        refine x_i2l h dX3_shift_109 ?_
                        refine x_ladd h dX3_shift_110 ?_
                        refine x_aload_n h dX3_shift_111 rfl ?_
                        refine x_getr h (j := 91) g_X3_79 (mlt hn rfl) rfl (by decide) rfl dX3_shift_112 ?_
                        refine x_iload_n h dX3_shift_115 rfl ?_
                        refine x_iald h (mlt hn rfl) rfl ht _ rfl dX3_shift_116 ?_
                        refine x_i2l h dX3_shift_117 ?_
                        refine x_lcmp h dX3_shift_118 ?_
                        refine x_if_le h 125 dX3_shift_119 rfl (fun c119 => ?_) (fun c119 => ?_)
                        · skip
                          have hgd : ¬ (z < 0 ∨ i < 0 ∨ j < 0 ∨ (I 91 (ix s)).toInt64 < i.toInt64 + z.toInt64 ∨ (I 91 (ix t)).toInt64 < j.toInt64 + z.toInt64) := fun q => by rcases q with q | q | q | q | q; exact c75 q; exact c79 q; exact c84 q; exact c101 ((lg_cmp_gt _ _).mpr q); exact absurd ((lg_cmp_le _ _).mp c119) (Int64.not_le.mpr q)
                          have hC : m_shiftC I s i t j z = z := by unfold m_shiftC; rw [if_neg c4, if_neg c11, if_neg c23, if_neg c33, if_neg c44, if_neg c52, if_neg (not_not_intro c67), if_neg hgd]
                          obtain ⟨p, c, rfl, rfl, hpc, hpc6⟩ := shift_n c79 c75 (hL s hs) (fun q => hgd (Or.inr (Or.inr (Or.inr (Or.inl q)))))
                          obtain ⟨q, rfl, hqc, hqc6⟩ := shift_m c84 (by omega) (hL t ht) (fun q => hgd (Or.inr (Or.inr (Or.inr (Or.inr q)))))
                          obtain ⟨a, ha, rfl⟩ := vp_in_of hs (by decide)
                          obtain ⟨b, hb, rfl⟩ := vp_in_of ht (by decide)
                          refine x_iload_n h dX3_shift_125 rfl ?_
                          refine x_iload_n h dX3_shift_126 rfl ?_
                          refine x_icmp_ne h 185 dX3_shift_127 rfl (fun c127 => ?_) (fun c127 => ?_)
                          · skip
                            have hfw : a ≠ b ∨ q ≤ p := Or.inl (fun z => c127 (by rw [z]))
                            refine x_iconst h dX3_shift_185 (0) rfl ?_
                            refine x_istore h dX3_shift_186 (by decide) [some (.ref (xb G + 70)), some (.int (nI a)), some (.int (nI p)), some (.int (nI b)), some (.int (nI q)), some (.int (nI c)), some (.int 0)] rfl ?_
                            have lp188 : ∀ (d : Nat) (k : Nat) (M : xL_T), c - k < d → (k ≤ c) → (M = cpyL L (60 * b + q) (60 * a + p) k) → X Θ 0 0 n TyM I M FM 188 [some (.ref (xb G + 70)), some (.int (nI a)), some (.int (nI p)), some (.int (nI b)), some (.int (nI q)), some (.int (nI c)), some (.int (nI k))] [] := by
                              intro d
                              induction d with
                              | zero =>
                                intro k M hlt
                                exact absurd hlt (Nat.not_lt_zero _)
                              | succ d ih =>
                                intro k M hlt hk hM
                                refine x_iload h dX3_shift_188 rfl ?_
                                refine x_iload h dX3_shift_190 rfl ?_
                                refine x_icmp_ge h 230 dX3_shift_192 rfl (fun c192 => ?_) (fun c192 => ?_)
                                · skip
                                  have hkc : k = c := Nat.le_antisymm hk (nleN rfl (by omega) (by omega) c192)
                                  refine x_iload h dX3_shift_230 rfl ?_
                                  exact x_iret h dX3_shift_232 rfl (xpE.to (by rw [hC]) rfl (by rw [shiftL_1 hC (nI_pos (by omega)), ix_n (by omega), ix_n (by omega), ix_n (by omega), ix_n (by omega), ix_n (by omega)]; first | (rw [hM, hkc]; done) | (rw [hM, hkc]; exact cpyD_0)) rfl)
                                · skip
                                  have hkc : k < c := nltN rfl (by omega) (by omega) c192
                                  refine x_aload_n h dX3_shift_195 rfl ?_
                                  refine x_getr h (j := 92) g_X3_82 (mlt hn rfl) rfl (by decide) rfl dX3_shift_196 ?_
                                  refine x_bipush h dX3_shift_199 (60) rfl ?_
                                  refine x_iload_n h dX3_shift_201 rfl ?_
                                  refine x_imulE h (nI (60 * b)) (pk_mul 60 b) dX3_shift_202 ?_
                                  refine x_iload h dX3_shift_203 rfl ?_
                                  refine x_iaddE h (nI (60 * b + q)) (nI_add (60 * b) q) dX3_shift_205 ?_
                                  refine x_iload h dX3_shift_206 rfl ?_
                                  refine x_iaddE h (nI (60 * b + q + k)) (nI_add (60 * b + q) k) dX3_shift_208 ?_
                                  refine x_aload_n h dX3_shift_209 rfl ?_
                                  refine x_getr h (j := 92) g_X3_82 (mlt hn rfl) rfl (by decide) rfl dX3_shift_210 ?_
                                  refine x_bipush h dX3_shift_213 (60) rfl ?_
                                  refine x_iload_n h dX3_shift_215 rfl ?_
                                  refine x_imulE h (nI (60 * a)) (pk_mul 60 a) dX3_shift_216 ?_
                                  refine x_iload_n h dX3_shift_217 rfl ?_
                                  refine x_iaddE h (nI (60 * a + p)) (nI_add (60 * a) p) dX3_shift_218 ?_
                                  refine x_iload h dX3_shift_219 rfl ?_
                                  refine x_iaddE h (nI (60 * a + p + k)) (nI_add (60 * a + p) k) dX3_shift_221 ?_
                                  refine x_lald h (mlt hn rfl) rfl (vp_in_nI (by omega) (by first | decide | omega)) (60 * a + p + k) (nI_clamp (by omega)) dX3_shift_222 ?_
                                  refine x_last h (mlt hn rfl) rfl (vp_in_nI (by omega) (by first | decide | omega)) (60 * b + q + k) (nI_clamp (by omega)) dX3_shift_223 (fun M223 eM223 => ?_)
                                  refine x_iinc h dX3_shift_224 (by decide) rfl (nI (k + 1)) (nI_1 k) [some (.ref (xb G + 70)), some (.int (nI a)), some (.int (nI p)), some (.int (nI b)), some (.int (nI q)), some (.int (nI c)), some (.int (nI (k + 1)))] rfl ?_
                                  refine x_goto h 188 dX3_shift_227 rfl ?_
                                  exact ih (k + 1) M223 (by omega) (by omega) (by rw [eM223, hM]; exact cpyL_up (by omega))
                            exact lp188 (c + 1) 0 L (by omega) (by omega) cpyL_z.symm
                          · skip
                            have hab : a = b := (nI_eq (by omega) (by omega)).mp c127
                            refine x_iload_n h dX3_shift_130 rfl ?_
                            refine x_iload h dX3_shift_131 rfl ?_
                            refine x_icmp_ge h 185 dX3_shift_133 rfl (fun c133 => ?_) (fun c133 => ?_)
                            · skip
                              have hfw : a ≠ b ∨ q ≤ p := Or.inr ((nI_leI (by omega) (by omega)).mp c133)
                              refine x_iconst h dX3_shift_185 (0) rfl ?_
                              refine x_istore h dX3_shift_186 (by decide) [some (.ref (xb G + 70)), some (.int (nI a)), some (.int (nI p)), some (.int (nI b)), some (.int (nI q)), some (.int (nI c)), some (.int 0)] rfl ?_
                              have lp188 : ∀ (d : Nat) (k : Nat) (M : xL_T), c - k < d → (k ≤ c) → (M = cpyL L (60 * b + q) (60 * a + p) k) → X Θ 0 0 n TyM I M FM 188 [some (.ref (xb G + 70)), some (.int (nI a)), some (.int (nI p)), some (.int (nI b)), some (.int (nI q)), some (.int (nI c)), some (.int (nI k))] [] := by
                                intro d
                                induction d with
                                | zero =>
                                  intro k M hlt
                                  exact absurd hlt (Nat.not_lt_zero _)
                                | succ d ih =>
                                  intro k M hlt hk hM
                                  refine x_iload h dX3_shift_188 rfl ?_
                                  refine x_iload h dX3_shift_190 rfl ?_
                                  refine x_icmp_ge h 230 dX3_shift_192 rfl (fun c192 => ?_) (fun c192 => ?_)
                                  · skip
                                    have hkc : k = c := Nat.le_antisymm hk (nleN rfl (by omega) (by omega) c192)
                                    refine x_iload h dX3_shift_230 rfl ?_
                                    exact x_iret h dX3_shift_232 rfl (xpE.to (by rw [hC]) rfl (by rw [shiftL_1 hC (nI_pos (by omega)), ix_n (by omega), ix_n (by omega), ix_n (by omega), ix_n (by omega), ix_n (by omega)]; first | (rw [hM, hkc]; done) | (rw [hM, hkc]; exact cpyD_0)) rfl)
                                  · skip
                                    have hkc : k < c := nltN rfl (by omega) (by omega) c192
                                    refine x_aload_n h dX3_shift_195 rfl ?_
                                    refine x_getr h (j := 92) g_X3_82 (mlt hn rfl) rfl (by decide) rfl dX3_shift_196 ?_
                                    refine x_bipush h dX3_shift_199 (60) rfl ?_
                                    refine x_iload_n h dX3_shift_201 rfl ?_
                                    refine x_imulE h (nI (60 * b)) (pk_mul 60 b) dX3_shift_202 ?_
                                    refine x_iload h dX3_shift_203 rfl ?_
                                    refine x_iaddE h (nI (60 * b + q)) (nI_add (60 * b) q) dX3_shift_205 ?_
                                    refine x_iload h dX3_shift_206 rfl ?_
                                    refine x_iaddE h (nI (60 * b + q + k)) (nI_add (60 * b + q) k) dX3_shift_208 ?_
                                    refine x_aload_n h dX3_shift_209 rfl ?_
                                    refine x_getr h (j := 92) g_X3_82 (mlt hn rfl) rfl (by decide) rfl dX3_shift_210 ?_
                                    refine x_bipush h dX3_shift_213 (60) rfl ?_
                                    refine x_iload_n h dX3_shift_215 rfl ?_
                                    refine x_imulE h (nI (60 * a)) (pk_mul 60 a) dX3_shift_216 ?_
                                    refine x_iload_n h dX3_shift_217 rfl ?_
                                    refine x_iaddE h (nI (60 * a + p)) (nI_add (60 * a) p) dX3_shift_218 ?_
                                    refine x_iload h dX3_shift_219 rfl ?_
                                    refine x_iaddE h (nI (60 * a + p + k)) (nI_add (60 * a + p) k) dX3_shift_221 ?_
                                    refine x_lald h (mlt hn rfl) rfl (vp_in_nI (by omega) (by first | decide | omega)) (60 * a + p + k) (nI_clamp (by omega)) dX3_shift_222 ?_
                                    refine x_last h (mlt hn rfl) rfl (vp_in_nI (by omega) (by first | decide | omega)) (60 * b + q + k) (nI_clamp (by omega)) dX3_shift_223 (fun M223 eM223 => ?_)
                                    refine x_iinc h dX3_shift_224 (by decide) rfl (nI (k + 1)) (nI_1 k) [some (.ref (xb G + 70)), some (.int (nI a)), some (.int (nI p)), some (.int (nI b)), some (.int (nI q)), some (.int (nI c)), some (.int (nI (k + 1)))] rfl ?_
                                    refine x_goto h 188 dX3_shift_227 rfl ?_
                                    exact ih (k + 1) M223 (by omega) (by omega) (by rw [eM223, hM]; exact cpyL_up (by omega))
                              exact lp188 (c + 1) 0 L (by omega) (by omega) cpyL_z.symm
                            · skip
                              have hpq : p < q := Nat.not_le.mp (fun z => c133 (nI_le z (by omega)))
                              refine x_iload h dX3_shift_136 rfl ?_
                              refine x_iconst h dX3_shift_138 (1) rfl ?_
                              refine x_isub h dX3_shift_139 ?_
                              refine x_nmi (fun v140 ev140 => ?_)
                              refine x_istore h dX3_shift_140 (by decide) [some (.ref (xb G + 70)), some (.int (nI a)), some (.int (nI p)), some (.int (nI b)), some (.int (nI q)), some (.int (nI c)), some (.int v140)] rfl ?_
                              have lp142 : ∀ (d : Nat) (k : Nat) (w : Int32) (M : xL_T), k < d → (k ≤ c) → (w = nI k - 1) → (M = cpyD L (60 * b + q) (60 * a + p) k c) → X Θ 0 0 n TyM I M FM 142 [some (.ref (xb G + 70)), some (.int (nI a)), some (.int (nI p)), some (.int (nI b)), some (.int (nI q)), some (.int (nI c)), some (.int w)] [] := by
                                intro d
                                induction d with
                                | zero =>
                                  intro k w M hlt
                                  exact absurd hlt (Nat.not_lt_zero _)
                                | succ d ih =>
                                  intro k w M hlt hk hw hM
                                  refine x_iload h dX3_shift_142 rfl ?_
                                  refine x_if_lt h 182 dX3_shift_144 rfl (fun c144 => ?_) (fun c144 => ?_)
                                  · skip
                                    have hkc : k = 0 := shift_0 hw (by omega) c144
                                    refine x_goto h 230 dX3_shift_182 rfl ?_
                                    refine x_iload h dX3_shift_230 rfl ?_
                                    exact x_iret h dX3_shift_232 rfl (xpE.to (by rw [hC]) rfl (by rw [shiftL_1 hC (nI_pos (by omega)), ix_n (by omega), ix_n (by omega), ix_n (by omega), ix_n (by omega), ix_n (by omega)]; first | (rw [hM, hkc]; done) | (rw [hM, hkc]; exact cpyD_0)) rfl)
                                  · skip
                                    obtain ⟨e, rfl, hw1⟩ := shift_1 hw (by omega) c144
                                    refine x_aload_n h dX3_shift_147 rfl ?_
                                    refine x_getr h (j := 92) g_X3_82 (mlt hn rfl) rfl (by decide) rfl dX3_shift_148 ?_
                                    refine x_bipush h dX3_shift_151 (60) rfl ?_
                                    refine x_iload_n h dX3_shift_153 rfl ?_
                                    refine x_imulE h (nI (60 * b)) (pk_mul 60 b) dX3_shift_154 ?_
                                    refine x_iload h dX3_shift_155 rfl ?_
                                    refine x_iaddE h (nI (60 * b + q)) (nI_add (60 * b) q) dX3_shift_157 ?_
                                    refine x_iload h dX3_shift_158 rfl ?_
                                    refine x_iaddE h (nI (60 * b + q + e)) (by rw [hw1]; exact nI_add _ _) dX3_shift_160 ?_
                                    refine x_aload_n h dX3_shift_161 rfl ?_
                                    refine x_getr h (j := 92) g_X3_82 (mlt hn rfl) rfl (by decide) rfl dX3_shift_162 ?_
                                    refine x_bipush h dX3_shift_165 (60) rfl ?_
                                    refine x_iload_n h dX3_shift_167 rfl ?_
                                    refine x_imulE h (nI (60 * a)) (pk_mul 60 a) dX3_shift_168 ?_
                                    refine x_iload_n h dX3_shift_169 rfl ?_
                                    refine x_iaddE h (nI (60 * a + p)) (nI_add (60 * a) p) dX3_shift_170 ?_
                                    refine x_iload h dX3_shift_171 rfl ?_
                                    refine x_iaddE h (nI (60 * a + p + e)) (by rw [hw1]; exact nI_add _ _) dX3_shift_173 ?_
                                    refine x_lald h (mlt hn rfl) rfl (vp_in_nI (by omega) (by first | decide | omega)) (60 * a + p + e) (nI_clamp (by omega)) dX3_shift_174 ?_
                                    refine x_last h (mlt hn rfl) rfl (vp_in_nI (by omega) (by first | decide | omega)) (60 * b + q + e) (nI_clamp (by omega)) dX3_shift_175 (fun M175 eM175 => ?_)
                                    refine x_iinc h dX3_shift_176 (by decide) rfl (nI e - 1) (by rw [hw1, Int32.sub_eq_add_neg]; rfl) [some (.ref (xb G + 70)), some (.int (nI a)), some (.int (nI p)), some (.int (nI b)), some (.int (nI q)), some (.int (nI c)), some (.int (nI e - 1))] rfl ?_
                                    refine x_goto h 142 dX3_shift_179 rfl ?_
                                    exact ih e ((nI e - 1)) M175 (by omega) (by omega) rfl (by rw [eM175, hM]; exact cpyD_up (by omega) (by omega))
                              exact lp142 (c + 1) c (v140) L (by omega) (Nat.le_refl _) ev140 cpyD_z.symm
                        · skip
                          have hbad : z < 0 ∨ i < 0 ∨ j < 0 ∨ (I 91 (ix s)).toInt64 < i.toInt64 + z.toInt64 ∨ (I 91 (ix t)).toInt64 < j.toInt64 + z.toInt64 := Or.inr (Or.inr (Or.inr (Or.inr (Int64.not_le.mp (fun q => c119 ((lg_cmp_le _ _).mpr q))))))
                          refine x_bipush h dX3_shift_122 (-13) rfl ?_
                          exact x_iret h dX3_shift_124 rfl (xpE.to (by unfold m_shiftC; rw [if_neg c4, if_neg c11, if_neg c23, if_neg c33, if_neg c44, if_neg c52, if_neg (not_not_intro c67), if_pos hbad]) rfl (shiftL_0 (by unfold m_shiftC; rw [if_neg c4, if_neg c11, if_neg c23, if_neg c33, if_neg c44, if_neg c52, if_neg (not_not_intro c67), if_pos hbad]) (by decide)) rfl)
              · skip
                refine x_bipush h dX3_shift_70 (-12) rfl ?_
                exact x_iret h dX3_shift_72 rfl (xpE.to (by unfold m_shiftC; first | rw [if_neg c4, if_neg c11, if_neg c23, if_neg c33, if_pos c44] | rw [if_neg c4, if_neg c11, if_neg c23, if_neg c33, if_neg c44, if_pos c52] | rw [if_neg c4, if_neg c11, if_neg c23, if_neg c33, if_neg c44, if_neg c52, if_pos c67]) rfl (shiftL_0 (by unfold m_shiftC; first | rw [if_neg c4, if_neg c11, if_neg c23, if_neg c33, if_pos c44] | rw [if_neg c4, if_neg c11, if_neg c23, if_neg c33, if_neg c44, if_pos c52] | rw [if_neg c4, if_neg c11, if_neg c23, if_neg c33, if_neg c44, if_neg c52, if_pos c67]) (by decide)) rfl)
        · skip
          refine x_bipush h dX3_shift_36 (-11) rfl ?_
          exact x_iret h dX3_shift_38 rfl (xpE.to (by unfold m_shiftC; first | rw [if_neg c4, if_neg c11, if_pos c23] | rw [if_neg c4, if_neg c11, if_neg c23, if_pos c33]) rfl (shiftL_0 (by unfold m_shiftC; first | rw [if_neg c4, if_neg c11, if_pos c23] | rw [if_neg c4, if_neg c11, if_neg c23, if_pos c33]) (by decide)) rfl)
    · skip
      refine x_iconst h dX3_shift_14 (-1) rfl ?_
      exact x_iret h dX3_shift_15 rfl (xpE.to (by unfold m_shiftC; first | rw [if_pos c4] | rw [if_neg c4, if_pos c11]) rfl (shiftL_0 (by unfold m_shiftC; first | rw [if_pos c4] | rw [if_neg c4, if_pos c11]) (by decide)) rfl)
set_option maxHeartbeats 4000000 in
theorem t_taken (l : Launch) (G : xG_T) (n : Nat) (hn : 103 ≤ n) (I : xI_T) (L : xL_T) (s : Int32) (k : Int32) (hk8 : ∀ k : Nat, k < 50 → vp_in (I 88 k) 8) (hh : ∀ s : Int32, vp_in s 6 → ¬ I 90 (ix s) = -1 → m_isRow I s = 0 → vp_in (I 90 (ix s) - 10) 50) : CM l 2 yX3_taken cX3_taken 5 (some .int) G n [.ref (xb G + 70), .int s, .int k] I L (some (.int (m_taken I s k))) (I) (L) := by
  refine Cg.intro (cls := RX3) (pad := 2) (lv := [some (.ref (xb G + 70)), some (.int s), some (.int k), none, none]) rfl (by decide) (Nat.le_of_ble_eq_true rfl) rfl (fun Θ h => ?_)
  refine x_iload_n h dX3_taken_0 rfl ?_
  refine x_callSEi h (As := [.int _]) (t_isShelf l G n hn _ _ _ ) m_X3_127 dX3_taken_1 ⟨by decide, by decide⟩ ⟨by decide, by decide⟩ rfl (Nat.le_of_ble_eq_true rfl) ?_
  refine x_if_eq h 17 dX3_taken_4 rfl (fun c4 => ?_) (fun c4 => ?_)
  · skip
    refine x_iconst h dX3_taken_17 (-1) rfl ?_
    exact x_iret h dX3_taken_18 rfl (xpE.to (by unfold m_taken; first | rw [if_pos c4] | rw [if_neg c4, if_pos c14]) rfl rfl rfl)
  · skip
    have hs := inR_s c4
    refine x_iload_n h dX3_taken_7 rfl ?_
    refine x_iconst h dX3_taken_8 (0) rfl ?_
    refine x_bipush h dX3_taken_9 (7) rfl ?_
    refine x_callSEi h (As := [.int _, .int _, .int _]) (t_within l G n hn _ _ _ _ _ ) m_X3_119 dX3_taken_11 ⟨by decide, by decide⟩ ⟨by decide, by decide⟩ rfl (Nat.le_of_ble_eq_true rfl) ?_
    refine x_if_ne h 19 dX3_taken_14 rfl (fun c14 => ?_) (fun c14 => ?_)
    · skip
      refine x_aload_n h dX3_taken_19 rfl ?_
      refine x_getr h (j := 90) g_X3_76 (mlt hn rfl) rfl (by decide) rfl dX3_taken_20 ?_
      refine x_iload_n h dX3_taken_23 rfl ?_
      refine x_iald h (mlt hn rfl) rfl hs _ rfl dX3_taken_24 ?_
      refine x_iconst h dX3_taken_25 (-1) rfl ?_
      refine x_icmp_ne h 32 dX3_taken_26 rfl (fun c26 => ?_) (fun c26 => ?_)
      · skip
        refine x_aload_n h dX3_taken_32 rfl ?_
        refine x_iload_n h dX3_taken_33 rfl ?_
        refine x_callVEi h (As := [.int _]) (t_isRow l G n hn _ _ _ hs) m_X3_372 (mlt hn rfl) rfl dX3_taken_34 ⟨by decide, by decide⟩ ⟨by decide, by decide⟩ rfl (Nat.le_of_ble_eq_true rfl) ?_
        refine x_if_eq h 43 dX3_taken_37 rfl (fun c37 => ?_) (fun c37 => ?_)
        · skip
          refine x_aload_n h dX3_taken_43 rfl ?_
          refine x_getr h (j := 88) g_X3_70 (mlt hn rfl) rfl (by decide) rfl dX3_taken_44 ?_
          refine x_aload_n h dX3_taken_47 rfl ?_
          refine x_getr h (j := 90) g_X3_76 (mlt hn rfl) rfl (by decide) rfl dX3_taken_48 ?_
          refine x_iload_n h dX3_taken_51 rfl ?_
          refine x_iald h (mlt hn rfl) rfl hs _ rfl dX3_taken_52 ?_
          refine x_bipush h dX3_taken_53 (10) rfl ?_
          refine x_isub h dX3_taken_55 ?_
          refine x_iald h (mlt hn rfl) rfl (hh s hs c26 c37) _ rfl dX3_taken_56 ?_
          refine x_nmi (fun v57 ev57 => ?_)
          refine x_istore_n h dX3_taken_57 rfl (by decide) [some (.ref (xb G + 70)), some (.int s), some (.int k), some (.int v57), none] rfl ?_
          have hv57 : vp_in v57 8 := by rw [ev57]; exact hk8 _ (nI_ix (hh s hs c26 c37) (by decide)).2
          refine x_iload_n h dX3_taken_58 rfl ?_
          refine x_istore h dX3_taken_59 (by decide) [some (.ref (xb G + 70)), some (.int s), some (.int k), some (.int v57), some (.int v57)] rfl ?_
          have lp61 : ∀ (d : Nat) (e : Nat) (w : Int32), e < d → (m_up k 8 v57 = m_up k (e + 1) w) → (∃ c : Nat, c ≤ e ∧ c < 8 ∧ w = nI c) → X Θ 0 0 n TyM I L FM 61 [some (.ref (xb G + 70)), some (.int s), some (.int k), some (.int v57), some (.int w)] [] := by
            intro d
            induction d with
            | zero =>
              intro e w hlt
              exact absurd hlt (Nat.not_lt_zero _)
            | succ d ih =>
              intro e w hlt hJ hw
              refine x_iload h dX3_taken_61 rfl ?_
              refine x_iload_n h dX3_taken_63 rfl ?_
              refine x_icmp_eq h 82 dX3_taken_64 rfl (fun c64 => ?_) (fun c64 => ?_)
              · skip
                have hU : m_up k 8 v57 = w := by rw [hJ, up_0 c64]
                refine x_iload h dX3_taken_82 rfl ?_
                refine x_iload_n h dX3_taken_84 rfl ?_
                refine x_icmp_ne h 92 dX3_taken_85 rfl (fun c85 => ?_) (fun c85 => ?_)
                · skip
                  refine x_bipush h dX3_taken_92 (-12) rfl ?_
                  exact x_iret h dX3_taken_94 rfl (xpE.to (by unfold m_taken; rw [if_neg c4, if_neg c14, if_neg c26, if_neg (not_not_intro c37), ← ev57, hU]; first | (rw [if_pos c85]; done) | (rw [if_neg c85]; done)) rfl rfl rfl)
                · skip
                  refine x_iload_n h dX3_taken_88 rfl ?_
                  refine x_goto h 94 dX3_taken_89 rfl ?_
                  exact x_iret h dX3_taken_94 rfl (xpE.to (by unfold m_taken; rw [if_neg c4, if_neg c14, if_neg c26, if_neg (not_not_intro c37), ← ev57, hU]; first | (rw [if_pos c85]; done) | (rw [if_neg c85]; done)) rfl rfl rfl)
              · skip
                refine x_iload h dX3_taken_67 rfl ?_
                refine x_if_le h 82 dX3_taken_69 rfl (fun c69 => ?_) (fun c69 => ?_)
                · skip
                  have hU : m_up k 8 v57 = w := by rw [hJ, up_1 c64 c69]
                  refine x_iload h dX3_taken_82 rfl ?_
                  refine x_iload_n h dX3_taken_84 rfl ?_
                  refine x_icmp_ne h 92 dX3_taken_85 rfl (fun c85 => ?_) (fun c85 => ?_)
                  · skip
                    refine x_bipush h dX3_taken_92 (-12) rfl ?_
                    exact x_iret h dX3_taken_94 rfl (xpE.to (by unfold m_taken; rw [if_neg c4, if_neg c14, if_neg c26, if_neg (not_not_intro c37), ← ev57, hU]; first | (rw [if_pos c85]; done) | (rw [if_neg c85]; done)) rfl rfl rfl)
                  · skip
                    refine x_iload_n h dX3_taken_88 rfl ?_
                    refine x_goto h 94 dX3_taken_89 rfl ?_
                    exact x_iret h dX3_taken_94 rfl (xpE.to (by unfold m_taken; rw [if_neg c4, if_neg c14, if_neg c26, if_neg (not_not_intro c37), ← ev57, hU]; first | (rw [if_pos c85]; done) | (rw [if_neg c85]; done)) rfl rfl rfl)
                · skip
                  obtain ⟨e2, rfl⟩ : ∃ z : Nat, e = z + 1 := by obtain ⟨c, h1, h2, h3⟩ := hw; exact ⟨e - 1, by have : c ≠ 0 := fun z => c69 (by rw [h3, z]; decide); omega⟩
                  refine x_iload h dX3_taken_72 rfl ?_
                  refine x_callSEi h (As := [.int _]) (t_above l G n hn _ _ _ ) m_X3_357 dX3_taken_74 ⟨by decide, by decide⟩ ⟨by decide, by decide⟩ rfl (Nat.le_of_ble_eq_true rfl) ?_
                  refine x_nmi (fun v77 ev77 => ?_)
                  refine x_istore h dX3_taken_77 (by decide) [some (.ref (xb G + 70)), some (.int s), some (.int k), some (.int v57), some (.int v77)] rfl ?_
                  refine x_goto h 61 dX3_taken_79 rfl ?_
                  exact ih e2 (v77) (by omega) (by rw [hJ, up_2 c64 c69, ev77]) (by obtain ⟨c, h1, h2, h3⟩ := hw; obtain ⟨c2, h4, h5⟩ := above_lt h2 (Nat.pos_of_ne_zero (fun z => c69 (by rw [h3, z]; decide))); exact ⟨c2, by omega, by omega, by rw [ev77, h3]; exact h5⟩)
          exact lp61 8 7 v57 (by decide) rfl (by obtain ⟨c, h1, h2⟩ := vp_in_of hv57 (by decide); exact ⟨c, by omega, h1, h2⟩)
        · skip
          refine x_bipush h dX3_taken_40 (-12) rfl ?_
          exact x_iret h dX3_taken_42 rfl (xpE.to (by unfold m_taken; rw [if_neg c4, if_neg c14, if_neg c26, if_pos c37]) rfl rfl rfl)
      · skip
        refine x_bipush h dX3_taken_29 (-11) rfl ?_
        exact x_iret h dX3_taken_31 rfl (xpE.to (by unfold m_taken; rw [if_neg c4, if_neg c14, if_pos c26]) rfl rfl rfl)
    · skip
      refine x_iconst h dX3_taken_17 (-1) rfl ?_
      exact x_iret h dX3_taken_18 rfl (xpE.to (by unfold m_taken; first | rw [if_pos c4] | rw [if_neg c4, if_pos c14]) rfl rfl rfl)
