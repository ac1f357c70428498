/-! WALKS OF THE REFERENCE: later, puts, takes -/

set_option maxHeartbeats 4000000 in
theorem t_later (l : Launch) (G : xG_T) (n : Nat) (hn : 103 ≤ n) (I : xI_T) (L : xL_T) (s : Int32) (z : Int32) (o : Int32) (hT : Wtop I) : CM l 7 yX3_later cX3_later 6 (some .int) G n [.ref (xb G + 70), .int s, .int z, .int o] I L (some (.int ((m_later I L s z o).1))) ((m_later I L s z o).2) (L) := by
  refine Cg.intro (cls := RX3) (pad := 2) (lv := [some (.ref (xb G + 70)), some (.int s), some (.int z), some (.int o), none, none]) rfl (by decide) (Nat.le_of_ble_eq_true rfl) rfl (fun Θ h => ?_)
  have cut32 : ∀ (_u : Unit), (m_later I L s z o = m_laterB I L s z o) → (vp_in s 6) → (¬ inR z 0 20 = 0) → (¬ o = -1 → vp_in o 8) → X Θ 0 0 n TyM I L FM 32 [some (.ref (xb G + 70)), some (.int s), some (.int z), some (.int o), none, none] [] := by
    intro _u hm hs hz ho
    refine x_aload_n h dX3_later_32 rfl ?_
    refine x_iload_n h dX3_later_33 rfl ?_
    refine x_callVEi h (As := [.int _]) (t_noBytes l G n hn _ _ _ hs) m_X3_276 (mlt hn rfl) rfl dX3_later_34 ⟨by decide, by decide⟩ ⟨by decide, by decide⟩ rfl (Nat.le_of_ble_eq_true rfl) ?_
    refine x_nmi (fun v37 ev37 => ?_)
    refine x_istore h dX3_later_37 (by decide) [some (.ref (xb G + 70)), some (.int s), some (.int z), some (.int o), some (.int v37), none] rfl ?_
    refine x_iload h dX3_later_39 rfl ?_
    refine x_if_ge h 47 dX3_later_41 rfl (fun c41 => ?_) (fun c41 => ?_)
    · skip
      have n41 := Int32.not_lt.mpr c41
      refine x_aload_n h dX3_later_47 rfl ?_
      refine x_iload_n h dX3_later_48 rfl ?_
      refine x_callVEv h (As := [.int _]) (t_reads l G n hn _ _ _ hs hT.1.1) m_X3_279 (mlt hn rfl) rfl dX3_later_49 ⟨by decide, by decide⟩ ⟨by decide, by decide⟩ rfl (Nat.le_of_ble_eq_true rfl) ?_
      refine x_nmI (fun J49 eJ49 => ?_)
      refine x_aload_n h dX3_later_52 rfl ?_
      refine x_callVEv h (As := []) (t_begins l G n hn _ _  ) m_X3_267 (mlt hn rfl) rfl dX3_later_53 ⟨by decide, by decide⟩ ⟨by decide, by decide⟩ rfl (Nat.le_of_ble_eq_true rfl) ?_
      refine x_nmI (fun J53 eJ53 => ?_)
      refine x_iconst h dX3_later_56 (0) rfl ?_
      refine x_istore h dX3_later_57 (by decide) [some (.ref (xb G + 70)), some (.int s), some (.int z), some (.int o), some (.int v37), some (.int 0)] rfl ?_
      obtain ⟨q, hq, eq⟩ := vp_in_of (xinR (N := 21) hz (by decide)) (by decide)
      have lp59 : ∀ (d : Nat) (i : Nat) (J : xI_T), q - i < d → (i ≤ q) → (J = m_lateGo i J53) → (Wall J) → X Θ 0 0 n TyM J L FM 59 [some (.ref (xb G + 70)), some (.int s), some (.int z), some (.int o), some (.int v37), some (.int (nI i))] [] := by
        intro d
        induction d with
        | zero =>
          intro i J hlt
          exact absurd hlt (Nat.not_lt_zero _)
        | succ d ih =>
          intro i J hlt hi hJ hA
          refine x_iload h dX3_later_59 rfl ?_
          refine x_iload_n h dX3_later_61 rfl ?_
          refine x_icmp_ge h 84 dX3_later_62 rfl (fun c62 => ?_) (fun c62 => ?_)
          · skip
            have hiq : i = q := Nat.le_antisymm hi (nleN eq (by omega) (by omega) c62)
            have hB : m_laterB I L s z o = (m_pickL J o, m_lays J 93 0) := by unfold m_laterB; rw [if_neg (by rw [← ev37]; exact n41), ← eJ49, ← eJ53, eq, ix_n (by omega), ← hiq, ← hJ]
            refine x_iload_n h dX3_later_84 rfl ?_
            refine x_iconst h dX3_later_85 (-1) rfl ?_
            refine x_icmp_ne h 96 dX3_later_86 rfl (fun c86 => ?_) (fun c86 => ?_)
            · skip
              refine x_aload_n h dX3_later_96 rfl ?_
              refine x_getr h (j := 72) g_X3_22 (mlt hn rfl) rfl (by decide) rfl dX3_later_97 ?_
              refine x_iload_n h dX3_later_100 rfl ?_
              refine x_iald h (mlt hn rfl) rfl (xin_mono (ho c86) (by decide)) _ rfl dX3_later_101 ?_
              refine x_nmi (fun v102 ev102 => ?_)
              refine x_istore h dX3_later_102 (by decide) [some (.ref (xb G + 70)), some (.int s), some (.int z), some (.int o), some (.int v37), some (.int v102)] rfl ?_
              refine x_aload_n h dX3_later_104 rfl ?_
              refine x_aload_n h dX3_later_105 rfl ?_
              refine x_getr h (j := 93) g_X3_86 (mlt hn rfl) rfl (by decide) rfl dX3_later_106 ?_
              refine x_iconst h dX3_later_109 (0) rfl ?_
              refine x_callVEv h (As := [.ref _, .int _]) (t_laysBack l G n hn _ _ 93 0 31 (Nat.le_of_ble_eq_true rfl) rfl (Nat.le_of_ble_eq_true rfl) (Nat.le_of_ble_eq_true rfl) (by decide)) m_X3_273 (mlt hn rfl) rfl dX3_later_110 ⟨by decide, by decide⟩ ⟨by decide, by decide⟩ rfl (Nat.le_of_ble_eq_true rfl) ?_
              refine x_nmI (fun J110 eJ110 => ?_)
              refine x_iload h dX3_later_113 rfl ?_
              exact x_iret h dX3_later_115 rfl (xpE.to (by rw [hm, hB, ev102]; unfold m_pickL; first | rw [if_pos c86] | rw [if_neg c86]) (by rw [hm, hB, eJ110]) rfl rfl)
            · skip
              refine x_aload_n h dX3_later_89 rfl ?_
              refine x_geti h g_X3_241 (mlt hn rfl) rfl rfl dX3_later_90 ?_
              refine x_goto h 102 dX3_later_93 rfl ?_
              refine x_nmi (fun v102 ev102 => ?_)
              refine x_istore h dX3_later_102 (by decide) [some (.ref (xb G + 70)), some (.int s), some (.int z), some (.int o), some (.int v37), some (.int v102)] rfl ?_
              refine x_aload_n h dX3_later_104 rfl ?_
              refine x_aload_n h dX3_later_105 rfl ?_
              refine x_getr h (j := 93) g_X3_86 (mlt hn rfl) rfl (by decide) rfl dX3_later_106 ?_
              refine x_iconst h dX3_later_109 (0) rfl ?_
              refine x_callVEv h (As := [.ref _, .int _]) (t_laysBack l G n hn _ _ 93 0 31 (Nat.le_of_ble_eq_true rfl) rfl (Nat.le_of_ble_eq_true rfl) (Nat.le_of_ble_eq_true rfl) (by decide)) m_X3_273 (mlt hn rfl) rfl dX3_later_110 ⟨by decide, by decide⟩ ⟨by decide, by decide⟩ rfl (Nat.le_of_ble_eq_true rfl) ?_
              refine x_nmI (fun J110 eJ110 => ?_)
              refine x_iload h dX3_later_113 rfl ?_
              exact x_iret h dX3_later_115 rfl (xpE.to (by rw [hm, hB, ev102]; unfold m_pickL; first | rw [if_pos c86] | rw [if_neg c86]) (by rw [hm, hB, eJ110]) rfl rfl)
          · skip
            have hiq : i < q := nltN eq (by omega) (by omega) c62
            refine x_iload h dX3_later_65 rfl ?_
            refine x_if_le h 74 dX3_later_67 rfl (fun c67 => ?_) (fun c67 => ?_)
            · skip
              refine x_aload_n h dX3_later_74 rfl ?_
              refine x_callVEv h (As := []) (t_goes l G n hn _ _  (by first | exact hA | (rw [eJ71]; exact hA.ends))) m_X3_270 (mlt hn rfl) rfl dX3_later_75 ⟨by decide, by decide⟩ ⟨by decide, by decide⟩ rfl (Nat.le_of_ble_eq_true rfl) ?_
              refine x_nmI (fun J75 eJ75 => ?_)
              refine x_iinc h dX3_later_78 (by decide) rfl (nI (i + 1)) (nI_1 i) [some (.ref (xb G + 70)), some (.int s), some (.int z), some (.int o), some (.int v37), some (.int (nI (i + 1)))] rfl ?_
              refine x_goto h 59 dX3_later_81 rfl ?_
              exact ih (i + 1) J75 (by omega) (by omega) (by first | (rw [eJ75, eJ71, hJ]; exact (lateGo_s (fun y => c67 (by rw [y]; decide))).symm) | (rw [eJ75, hJ]; exact (lateGo_0 (nI_le0 c67 (by omega))).symm)) (by first | (rw [eJ75, eJ71]; exact hA.ends.goes) | (rw [eJ75]; exact hA.goes))
            · skip
              refine x_aload_n h dX3_later_70 rfl ?_
              refine x_callVEv h (As := []) (t_ends l G n hn _ _  ) m_X3_282 (mlt hn rfl) rfl dX3_later_71 ⟨by decide, by decide⟩ ⟨by decide, by decide⟩ rfl (Nat.le_of_ble_eq_true rfl) ?_
              refine x_nmI (fun J71 eJ71 => ?_)
              refine x_aload_n h dX3_later_74 rfl ?_
              refine x_callVEv h (As := []) (t_goes l G n hn _ _  (by first | exact hA | (rw [eJ71]; exact hA.ends))) m_X3_270 (mlt hn rfl) rfl dX3_later_75 ⟨by decide, by decide⟩ ⟨by decide, by decide⟩ rfl (Nat.le_of_ble_eq_true rfl) ?_
              refine x_nmI (fun J75 eJ75 => ?_)
              refine x_iinc h dX3_later_78 (by decide) rfl (nI (i + 1)) (nI_1 i) [some (.ref (xb G + 70)), some (.int s), some (.int z), some (.int o), some (.int v37), some (.int (nI (i + 1)))] rfl ?_
              refine x_goto h 59 dX3_later_81 rfl ?_
              exact ih (i + 1) J75 (by omega) (by omega) (by first | (rw [eJ75, eJ71, hJ]; exact (lateGo_s (fun y => c67 (by rw [y]; decide))).symm) | (rw [eJ75, hJ]; exact (lateGo_0 (nI_le0 c67 (by omega))).symm)) (by first | (rw [eJ75, eJ71]; exact hA.ends.goes) | (rw [eJ75]; exact hA.goes))
      exact lp59 (q + 1) 0 J53 (by omega) (by omega) rfl (by rw [eJ53, eJ49]; exact hT.reads.begins)
    · skip
      have n41 := Int32.not_le.mp c41
      refine x_iload h dX3_later_44 rfl ?_
      exact x_iret h dX3_later_46 rfl (xpE.to (by rw [hm]; unfold m_laterB; rw [if_pos (by rw [← ev37]; exact n41), ev37]) (by rw [hm]; unfold m_laterB; rw [if_pos (by rw [← ev37]; exact n41)]) rfl rfl)
  refine x_iload_n h dX3_later_0 rfl ?_
  refine x_callSEi h (As := [.int _]) (t_isShelf l G n hn _ _ _ ) m_X3_127 dX3_later_1 ⟨by decide, by decide⟩ ⟨by decide, by decide⟩ rfl (Nat.le_of_ble_eq_true rfl) ?_
  refine x_if_eq h 30 dX3_later_4 rfl (fun c4 => ?_) (fun c4 => ?_)
  · skip
    refine x_iconst h dX3_later_30 (-1) rfl ?_
    exact x_iret h dX3_later_31 rfl (xpE.to (by subst_vars; first | with_reducible rfl | (simp only [m_later, *]; done) | (simp only [m_later, ix, *]; rfl) | (simp [m_later, ix, up2_ap, bec_k, bec_i, *]; done)) (by subst_vars; first | with_reducible rfl | (simp only [m_later, *]; done) | (simp only [m_later, ix, *]; rfl) | (simp [m_later, ix, up2_ap, bec_k, bec_i, *]; done)) rfl rfl)
  · skip
    refine x_iload_n h dX3_later_7 rfl ?_
    refine x_iconst h dX3_later_8 (0) rfl ?_
    refine x_bipush h dX3_later_9 (20) rfl ?_
    refine x_callSEi h (As := [.int _, .int _, .int _]) (t_within l G n hn _ _ _ _ _ ) m_X3_119 dX3_later_11 ⟨by decide, by decide⟩ ⟨by decide, by decide⟩ rfl (Nat.le_of_ble_eq_true rfl) ?_
    refine x_if_eq h 30 dX3_later_14 rfl (fun c14 => ?_) (fun c14 => ?_)
    · skip
      refine x_iconst h dX3_later_30 (-1) rfl ?_
      exact x_iret h dX3_later_31 rfl (xpE.to (by subst_vars; first | with_reducible rfl | (simp only [m_later, *]; done) | (simp only [m_later, ix, *]; rfl) | (simp [m_later, ix, up2_ap, bec_k, bec_i, *]; done)) (by subst_vars; first | with_reducible rfl | (simp only [m_later, *]; done) | (simp only [m_later, ix, *]; rfl) | (simp [m_later, ix, up2_ap, bec_k, bec_i, *]; done)) rfl rfl)
    · skip
      refine x_iload_n h dX3_later_17 rfl ?_
      refine x_iconst h dX3_later_18 (-1) rfl ?_
      refine x_icmp_eq h 32 dX3_later_19 rfl (fun c19 => ?_) (fun c19 => ?_)
      · skip
        exact cut32 () (by unfold m_later; first | (rw [if_neg c4, if_neg c14, if_neg (fun q => c27 q.2)]; rfl) | (rw [if_neg c4, if_neg c14, if_neg (fun q => q.1 c19)]; rfl)) (inR_s c4) c14 (fun q => by first | exact isB_in hT.1.1 c27 | exact absurd c19 q)
      · skip
        refine x_aload_n h dX3_later_22 rfl ?_
        refine x_iload_n h dX3_later_23 rfl ?_
        refine x_callVEi h (As := [.int _]) (t_isBuyer l G n hn _ _ _ ) m_X3_137 (mlt hn rfl) rfl dX3_later_24 ⟨by decide, by decide⟩ ⟨by decide, by decide⟩ rfl (Nat.le_of_ble_eq_true rfl) ?_
        refine x_if_ne h 32 dX3_later_27 rfl (fun c27 => ?_) (fun c27 => ?_)
        · skip
          exact cut32 () (by unfold m_later; first | (rw [if_neg c4, if_neg c14, if_neg (fun q => c27 q.2)]; rfl) | (rw [if_neg c4, if_neg c14, if_neg (fun q => q.1 c19)]; rfl)) (inR_s c4) c14 (fun q => by first | exact isB_in hT.1.1 c27 | exact absurd c19 q)
        · skip
          refine x_iconst h dX3_later_30 (-1) rfl ?_
          exact x_iret h dX3_later_31 rfl (xpE.to (by subst_vars; first | with_reducible rfl | (simp only [m_later, *]; done) | (simp only [m_later, ix, *]; rfl) | (simp [m_later, ix, up2_ap, bec_k, bec_i, *]; done)) (by subst_vars; first | with_reducible rfl | (simp only [m_later, *]; done) | (simp only [m_later, ix, *]; rfl) | (simp [m_later, ix, up2_ap, bec_k, bec_i, *]; done)) rfl rfl)
set_option maxHeartbeats 4000000 in
theorem t_puts (l : Launch) (G : xG_T) (n : Nat) (hn : 103 ≤ n) (I : xI_T) (L : xL_T) (p : Nat) (w : Int32) (z : Nat) (hz : I 70 45 = nI z) (hpz : p ≤ z) (hz20 : z < 20) : CM l 0 yX3_puts cX3_puts 4 (none) G n [.ref (xb G + 70), .int (nI p), .int w] I L (none) (m_puts I p w) (L) := by
  refine Cg.intro (cls := RX3) (pad := 1) (lv := [some (.ref (xb G + 70)), some (.int (nI p)), some (.int w), none]) rfl (by decide) (Nat.le_of_ble_eq_true rfl) rfl (fun Θ h => ?_)
  refine x_aload_n h dX3_puts_0 rfl ?_
  refine x_geti h g_X3_257 (mlt hn rfl) rfl rfl dX3_puts_1 ?_
  refine x_nmi (fun v4 ev4 => ?_)
  refine x_istore_n h dX3_puts_4 rfl (by decide) [some (.ref (xb G + 70)), some (.int (nI p)), some (.int w), some (.int v4)] rfl ?_
  obtain rfl : v4 = nI z := by rw [ev4]; exact hz
  have lp5 : ∀ (d : Nat) (k : Nat) (J : xI_T), k - p < d → (p ≤ k) → (k ≤ z) → (J = pshf I k z) → X Θ 0 0 n TyM J L FM 5 [some (.ref (xb G + 70)), some (.int (nI p)), some (.int w), some (.int (nI k))] [] := by
    intro d
    induction d with
    | zero =>
      intro k J hlt
      exact absurd hlt (Nat.not_lt_zero _)
    | succ d ih =>
      intro k J hlt hpk hkz hJ
      refine x_iload_n h dX3_puts_5 rfl ?_
      refine x_iload_n h dX3_puts_6 rfl ?_
      refine x_icmp_le h 30 dX3_puts_7 rfl (fun c7 => ?_) (fun c7 => ?_)
      · skip
        have hk7 : k = p := Nat.le_antisymm (Nat.not_lt.mp fun y => absurd c7 (nI_ge y (by omega))) hpk
        refine x_aload_n h dX3_puts_30 rfl ?_
        refine x_getr h (j := 96) g_X3_95 (mlt hn rfl) rfl (by decide) rfl dX3_puts_31 ?_
        refine x_iload_n h dX3_puts_34 rfl ?_
        refine x_iload_n h dX3_puts_35 rfl ?_
        refine x_iast h (mlt hn rfl) rfl (vp_in_nI (by omega) (by first | decide | omega)) (p) (nI_clamp (by omega)) dX3_puts_36 (fun J36 eJ36 => ?_)
        refine x_aload_n h dX3_puts_37 rfl ?_
        refine x_dup h dX3_puts_38 rfl ?_
        refine x_geti h g_X3_257 (mlt hn rfl) rfl rfl dX3_puts_39 ?_
        refine x_iconst h dX3_puts_42 (1) rfl ?_
        refine x_iadd h dX3_puts_43 ?_
        refine x_puti h p_X3_257 (mlt hn rfl) rfl rfl rfl rfl dX3_puts_44 (fun J44 eJ44 => ?_)
        exact x_vret h dX3_puts_47 rfl (xpE.to rfl (by rw [eJ44, eJ36, up2_i _ _ (by decide), hJ, hk7]; unfold m_puts; rw [hz, ix_n (by omega)]; unfold pshf; rw [if_neg (by omega), hz]) rfl rfl)
      · skip
        have hk7 : p < k := Nat.not_le.mp fun y => c7 (nI_le y (by omega))
        refine x_aload_n h dX3_puts_10 rfl ?_
        refine x_getr h (j := 96) g_X3_95 (mlt hn rfl) rfl (by decide) rfl dX3_puts_11 ?_
        refine x_iload_n h dX3_puts_14 rfl ?_
        refine x_aload_n h dX3_puts_15 rfl ?_
        refine x_getr h (j := 96) g_X3_95 (mlt hn rfl) rfl (by decide) rfl dX3_puts_16 ?_
        refine x_iload_n h dX3_puts_19 rfl ?_
        refine x_iconst h dX3_puts_20 (1) rfl ?_
        refine x_isubE h (nI (k - 1)) (nI_m1 (by omega)) dX3_puts_21 ?_
        refine x_iald h (mlt hn rfl) rfl (vp_in_nI (by omega) (by first | decide | omega)) (k - 1) (nI_clamp (by omega)) dX3_puts_22 ?_
        refine x_iast h (mlt hn rfl) rfl (vp_in_nI (by omega) (by first | decide | omega)) (k) (nI_clamp (by omega)) dX3_puts_23 (fun J23 eJ23 => ?_)
        refine x_iinc h dX3_puts_24 (by decide) rfl (nI (k - 1)) (nI_d1 (by omega)) [some (.ref (xb G + 70)), some (.int (nI p)), some (.int w), some (.int (nI (k - 1)))] rfl ?_
        refine x_goto h 5 dX3_puts_27 rfl ?_
        exact ih (k - 1) J23 (by omega) (by omega) (by omega) (by rw [eJ23, hJ]; exact psh_up (by omega) hkz)
  exact lp5 (z - p + 1) z I (by omega) hpz (by omega) psh_z.symm
set_option maxHeartbeats 4000000 in
theorem t_takes (l : Launch) (G : xG_T) (n : Nat) (hn : 103 ≤ n) (I : xI_T) (L : xL_T) (p : Nat) (z : Nat) (hz : I 70 45 - 1 = nI z) (hpz : p ≤ z) (hz20 : z < 20) : CM l 0 yX3_takes cX3_takes 3 (none) G n [.ref (xb G + 70), .int (nI p)] I L (none) (m_takes I p) (L) := by
  refine Cg.intro (cls := RX3) (pad := 1) (lv := [some (.ref (xb G + 70)), some (.int (nI p)), none]) rfl (by decide) (Nat.le_of_ble_eq_true rfl) rfl (fun Θ h => ?_)
  refine x_aload_n h dX3_takes_0 rfl ?_
  refine x_dup h dX3_takes_1 rfl ?_
  refine x_geti h g_X3_257 (mlt hn rfl) rfl rfl dX3_takes_2 ?_
  refine x_iconst h dX3_takes_5 (1) rfl ?_
  refine x_isub h dX3_takes_6 ?_
  refine x_puti h p_X3_257 (mlt hn rfl) rfl rfl rfl rfl dX3_takes_7 (fun J7 eJ7 => ?_)
  refine x_iload_n h dX3_takes_10 rfl ?_
  refine x_istore_n h dX3_takes_11 rfl (by decide) [some (.ref (xb G + 70)), some (.int (nI p)), some (.int (nI p))] rfl ?_
  have lp12 : ∀ (d : Nat) (k : Nat) (J : xI_T), z - k < d → (p ≤ k) → (k ≤ z) → (J = cpy2 J7 96 p 96 (p + 1) (k - p)) → X Θ 0 0 n TyM J L FM 12 [some (.ref (xb G + 70)), some (.int (nI p)), some (.int (nI k))] [] := by
    intro d
    induction d with
    | zero =>
      intro k J hlt
      exact absurd hlt (Nat.not_lt_zero _)
    | succ d ih =>
      intro k J hlt hpk hkz hJ
      have h45 : J 70 45 = nI z := by rw [hJ, cpy2_ap, if_neg (by omega), eJ7, up2_s]; exact hz
      refine x_iload_n h dX3_takes_12 rfl ?_
      refine x_aload_n h dX3_takes_13 rfl ?_
      refine x_geti h g_X3_257 (mlt hn rfl) rfl rfl dX3_takes_14 ?_
      refine x_icmp_ge h 40 dX3_takes_17 rfl (fun c17 => ?_) (fun c17 => ?_)
      · skip
        have hk7 : k = z := Nat.le_antisymm hkz (nleN h45 (by omega) (by omega) c17)
        exact x_vret h dX3_takes_40 rfl (xpE.to rfl (by rw [hJ, hk7, eJ7]; unfold m_takes; rw [hz, ix_n (by omega)]) rfl rfl)
      · skip
        have hk7 : k < z := nltN h45 (by omega) (by omega) c17
        refine x_aload_n h dX3_takes_20 rfl ?_
        refine x_getr h (j := 96) g_X3_95 (mlt hn rfl) rfl (by decide) rfl dX3_takes_21 ?_
        refine x_iload_n h dX3_takes_24 rfl ?_
        refine x_aload_n h dX3_takes_25 rfl ?_
        refine x_getr h (j := 96) g_X3_95 (mlt hn rfl) rfl (by decide) rfl dX3_takes_26 ?_
        refine x_iload_n h dX3_takes_29 rfl ?_
        refine x_iconst h dX3_takes_30 (1) rfl ?_
        refine x_iaddE h (nI (k + 1)) (nI_add k 1) dX3_takes_31 ?_
        refine x_iald h (mlt hn rfl) rfl (vp_in_nI (by omega) (by first | decide | omega)) (k + 1) (nI_clamp (by omega)) dX3_takes_32 ?_
        refine x_iast h (mlt hn rfl) rfl (vp_in_nI (by omega) (by first | decide | omega)) (k) (nI_clamp (by omega)) dX3_takes_33 (fun J33 eJ33 => ?_)
        refine x_iinc h dX3_takes_34 (by decide) rfl (nI (k + 1)) (nI_1 k) [some (.ref (xb G + 70)), some (.int (nI p)), some (.int (nI (k + 1)))] rfl ?_
        refine x_goto h 12 dX3_takes_37 rfl ?_
        exact ih (k + 1) J33 (by omega) (by omega) (by omega) (by rw [eJ33, hJ]; have y := cpy2_up (I := J7) (a := 96) (o := p) (b := 96) (p := p + 1) (c := k - p) (Or.inr (by omega)); rw [show p + (k - p) = k by omega, show p + 1 + (k - p) = k + 1 by omega, show k - p + 1 = k + 1 - p by omega] at y; exact y)
  exact lp12 (z - p + 1) p J7 (by omega) (Nat.le_refl _) hpz (by rw [Nat.sub_self]; exact cpy2_z.symm)
