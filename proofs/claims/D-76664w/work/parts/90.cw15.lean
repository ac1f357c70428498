/-! WALKS OF THE COMPONENT: what was seen -/
theorem p_X0_349 : xfp RX0 349 0 23 (tyX0 23) false := ⟨_, _, _, tyX0, rfl, by decide, in_X0, q731, rfl, tyX0_ok, nmX0, tyX0_ok 23 (by decide), rfl⟩
theorem g_X0_190 : xfg RX0 190 0 22 := ⟨_, _, _, rfl, by decide, in_X0, q730, rfl⟩
theorem g_X0_349 : xfg RX0 349 0 23 := ⟨_, _, _, rfl, by decide, in_X0, q731, rfl⟩
theorem w_X0_352 : xcvW RX0 352 0 yX0_laySeen cX0_laySeen 4 (some .int) [(5, 53, 56, 45), (5, 53, 60, 47)] 1 := ⟨_, _, _, rfl, lw_VW q1033 q1035 qs40 q99 q1036, rfl, by decide +kernel, by decide +kernel, by decide +kernel⟩
set_option maxHeartbeats 4000000 in
theorem k0_laySeen (l : Launch) (hl : l.stackTraces = false) (G : xG_T) (n : Nat) (Ty : Nat → xs_T) (F : xF_T) (hC : WC n Ty F) (I : xI_T) (L : xL_T) (J : xI_T) (M : xL_T) (s : Nat) (hs : s < 6) (hSh : shK n Ty I L F J M s) : CgW l 210 3 1010 yX0_laySeen cX0_laySeen 4 (some .int) [(5, 53, 56, 45), (5, 53, 60, 47)] G idC [.ref (xb G + 0), .int (nI s)] n Ty I L F (xpX n Ty L F (aR (fun r I2 => r = m_noB J (nI s) ∧ (r = 0 → ∃ z : Nat, RS I2 J M s z) ∧ Fr sset I I2))) := by
  refine CgW.intro (cls := RX0) (pad := 2) (lv := [some (.ref (xb G + 0)), some (.int (nI s)), none, none]) rfl (by decide) (Nat.le_of_ble_eq_true rfl) rfl (fun Θ h hTb => ?_)
  refine x_aload_n h dX0_laySeen_0 rfl ?_
  refine x_iconst h dX0_laySeen_1 (0) rfl ?_
  refine x_puti h p_X0_349 (mlt hC.1 rfl) (hC.2.1 _ _ rfl) rfl rfl rfl dX0_laySeen_2 (fun J2 eJ2 => ?_)
  refine x_aload_n h dX0_laySeen_5 rfl ?_
  refine x_getr h (j := 33) g_X0_32 (mlt hC.1 rfl) (hC.2.1 _ _ rfl) (by decide) (hC.2.2 _ _ _ rfl) dX0_laySeen_6 ?_
  refine x_iload_n h dX0_laySeen_9 rfl ?_
  rcases hSh.byte with ⟨hnul, h90⟩ | ⟨q, a, z, hq, hqn, hqT, h90, hf0, ha3, han, hz6, h91, haT, hval⟩ | ⟨q, ci, t, hq, hqn, hqT, hci, h90, ht0, ht1⟩
  · skip
    refine x_aaldn h (mlt hC.1 rfl) (hC.2.1 _ _ rfl) (by decide) rfl rfl (vp_in_nI hs (by decide)) (s) (nI_clamp (by omega)) hnul dX0_laySeen_10 ?_
    refine x_castN h dX0_laySeen_11 ?_
    refine x_astore_nN h dX0_laySeen_14 rfl (by decide) [some (.ref (xb G + 0)), some (.int (nI s)), some (.null), none] rfl ?_
    refine x_iconst h dX0_laySeen_15 (0) rfl ?_
    refine x_istore_n h dX0_laySeen_16 rfl (by decide) [some (.ref (xb G + 0)), some (.int (nI s)), some (.null), some (.int 0)] rfl ?_
    refine x_iload_n h dX0_laySeen_17 rfl ?_
    refine x_aload_nN h dX0_laySeen_18 rfl ?_
    refine x_invN h (As := []) q856 ⟨Or.inl ⟨_, _, _, _, q857, q859, q858⟩, by decide, by decide⟩ (by decide +kernel) dX0_laySeen_19 (x_noteN h hl (by decide) ⟨by decide, by decide⟩ (Nat.le_of_ble_eq_true rfl) (fun n9 hn99 => XN.catch h hTb (pre := [⟨5, 53, 56, 45⟩]) (x := ⟨5, 53, 60, 47⟩) (suf := _) rfl (fun z hz => by rw [List.mem_singleton.mp hz]; exact Or.inr ⟨by decide, _, q184, by decide +kernel⟩) (by decide) (by decide) q269 q291 (fun a9 => ?_)))
    refine x_astore_n h dX0_laySeen_60 rfl (by decide) [some (.ref (xb G + 0)), some (.int (nI s)), some (.ref a9), some (.int 0)] rfl ?_
    refine x_bipush h dX0_laySeen_61 (-11) rfl ?_
    refine x_wid h (by decide) (by decide) ?_
    exact x_iret h dX0_laySeen_63 rfl ⟨hn99, xtr_t, rfl, rfl, _, rfl, (noB_e hs h90).symm, fun z => absurd z (by decide), (by rw [eJ2]; exact Fr.rf.up (Or.inr ⟨rfl, rfl⟩))⟩
  · skip
    refine x_aaldr h (q := q) (mlt hC.1 rfl) (hC.2.1 _ _ rfl) (by decide) rfl rfl (vp_in_nI hs (by decide)) (s) (nI_clamp (by omega)) hq dX0_laySeen_10 ?_
    refine x_castS h q855 hqn hqT rfl dX0_laySeen_11 ?_
    refine x_astore_n h dX0_laySeen_14 rfl (by decide) [some (.ref (xb G + 0)), some (.int (nI s)), some (.ref (xb G + q)), none] rfl ?_
    refine x_iconst h dX0_laySeen_15 (0) rfl ?_
    refine x_istore_n h dX0_laySeen_16 rfl (by decide) [some (.ref (xb G + 0)), some (.int (nI s)), some (.ref (xb G + q)), some (.int 0)] rfl ?_
    have lp17 : ∀ (d : Nat) (k : Nat) (A : xI_T), z - k < d → (k ≤ z) → (A 0 23 = nI k ∧ ∀ j : Nat, j < k → A 24 j = (M 92 (60 * s + j)).toInt32) → (Fr sset I A) → X Θ 0 0 n Ty A L F 17 [some (.ref (xb G + 0)), some (.int (nI s)), some (.ref (xb G + q)), some (.int (nI k))] [] := by
      intro d
      induction d with
      | zero =>
        intro k A hlt
        exact absurd hlt (Nat.not_lt_zero _)
      | succ d ih =>
        intro k A hlt hk hA hf
        refine x_iload_n h dX0_laySeen_17 rfl ?_
        refine x_aload_n h dX0_laySeen_18 rfl ?_
        refine x_callVEi h (As := []) (k24_size l G n _ _ hC _ _ q a z hqn hqT hf0 han haT) m_X0_280 hqn hqT dX0_laySeen_19 ⟨by decide, by decide⟩ ⟨by decide, by decide⟩ rfl (Nat.le_of_ble_eq_true rfl) ?_
        refine x_icmp_ge h 53 dX0_laySeen_22 rfl (fun c22 => ?_) (fun c22 => ?_)
        · skip
          have hkz : k = z := by have := (nI_leI (a := z) (b := k) (by omega) (by omega)).mp c22; omega
          refine x_goto h 64 dX0_laySeen_53 rfl ?_
          refine x_iconst h dX0_laySeen_64 (0) rfl ?_
          refine x_wid h (by decide) (by decide) ?_
          exact x_iret h dX0_laySeen_65 rfl ⟨Nat.le_refl _, fun _ _ => rfl, rfl, rfl, _, rfl, (noB_b hs h90).symm, fun _ => ⟨z, ⟨by rw [← hkz]; exact hA.1, hz6⟩, h91, fun j hj => hA.2 j (by omega)⟩, hf⟩
        · skip
          have hkz : k < z := Nat.lt_of_not_le fun y => c22 ((nI_leI (by omega) (by omega)).mpr y)
          have hvv : (A a (ix (nI k))).toInt64.toInt32 = (M 92 (60 * s + k)).toInt32 := by rw [ix_n (by omega), hf a k (by omega), hval k hkz]
          refine x_aload_n h dX0_laySeen_25 rfl ?_
          refine x_getr h (j := 24) g_X0_190 (mlt hC.1 rfl) (hC.2.1 _ _ rfl) (by decide) (hC.2.2 _ _ _ rfl) dX0_laySeen_26 ?_
          refine x_iload_n h dX0_laySeen_29 rfl ?_
          refine x_aload_n h dX0_laySeen_30 rfl ?_
          refine x_iload_n h dX0_laySeen_31 rfl ?_
          refine x_callVEl h (As := [.int _]) (k24_at l G n _ _ hC _ _ q a z (nI k) hqn hqT hf0 han haT (vp_in_nI hkz (by omega))) m_X0_283 hqn hqT dX0_laySeen_32 ⟨by decide, by decide⟩ ⟨by decide, by decide⟩ rfl (Nat.le_of_ble_eq_true rfl) ?_
          refine x_l2i h dX0_laySeen_35 ?_
          refine x_iast h (mlt hC.1 rfl) (hC.2.1 _ _ rfl) (vp_in_nI (show k < 60 by omega) (by decide)) (k) (nI_clamp (by omega)) dX0_laySeen_36 (fun J36 eJ36 => ?_)
          refine x_aload_n h dX0_laySeen_37 rfl ?_
          refine x_dup h dX0_laySeen_38 rfl ?_
          refine x_geti h g_X0_349 (mlt hC.1 rfl) (hC.2.1 _ _ rfl) rfl dX0_laySeen_39 ?_
          refine x_eqi (nI k) (by rw [eJ36, up2_i _ _ (by decide)]; exact hA.1) ?_
          refine x_iconst h dX0_laySeen_42 (1) rfl ?_
          refine x_iaddE h (nI (k + 1)) (nI_add k 1) dX0_laySeen_43 ?_
          refine x_puti h p_X0_349 (mlt hC.1 rfl) (hC.2.1 _ _ rfl) rfl rfl rfl dX0_laySeen_44 (fun J44 eJ44 => ?_)
          refine x_iinc h dX0_laySeen_47 (by decide) rfl (nI (k + 1)) (nI_1 k) [some (.ref (xb G + 0)), some (.int (nI s)), some (.ref (xb G + q)), some (.int (nI (k + 1)))] rfl ?_
          refine x_goto h 17 dX0_laySeen_50 rfl ?_
          exact ih (k + 1) J44 (by omega) (by omega) ⟨by rw [eJ44, up2_s], fun j hj => by rw [eJ44, up2_i _ _ (by decide), eJ36]; by_cases e : j = k; rw [e, up2_s]; exact hvv; rw [up2_k _ _ e]; exact hA.2 j (by omega)⟩ (by rw [eJ44, eJ36]; exact (hf.up (Or.inl rfl)).up (Or.inr ⟨rfl, rfl⟩))
    exact lp17 (z + 1) 0 J2 (by omega) (by omega) ⟨by rw [eJ2]; exact up2_s _ _ _ _, fun j hj => absurd hj (Nat.not_lt_zero _)⟩ (by rw [eJ2]; exact Fr.rf.up (Or.inr ⟨rfl, rfl⟩))
  · skip
    obtain ⟨C9, T9, N9, hcl9, hp9⟩ := nobyte hci
    refine x_aaldr h (q := q) (mlt hC.1 rfl) (hC.2.1 _ _ rfl) (by decide) rfl rfl (vp_in_nI hs (by decide)) (s) (nI_clamp (by omega)) hq dX0_laySeen_10 ?_
    refine x_castF h q855 hqn hqT hcl9 hp9 dX0_laySeen_11 (fun t9 ht9 hn9 => x_note h hl xb_cce ht9 hn9 (by decide) ⟨by decide, by decide⟩ (Nat.le_of_ble_eq_true rfl) (fun n9 hn99 => XN.catch h hTb (pre := []) (x := ⟨5, 53, 56, 45⟩) (suf := _) rfl (fun z hz => absurd hz List.not_mem_nil) (by decide) (by decide) q184 q246 (fun a9 => ?_)))
    refine x_astore_n h dX0_laySeen_56 rfl (by decide) [some (.ref (xb G + 0)), some (.int (nI s)), some (.ref a9), none] rfl ?_
    refine x_bipush h dX0_laySeen_57 (-12) rfl ?_
    refine x_wid h (by decide) (by decide) ?_
    exact x_iret h dX0_laySeen_59 rfl ⟨hn99, xtr_t, rfl, rfl, _, rfl, (noB_o hs h90 ht0 ht1).symm, fun z => absurd z (by decide), (by rw [eJ2]; exact Fr.rf.up (Or.inr ⟨rfl, rfl⟩))⟩
set_option maxHeartbeats 4000000 in
theorem k0_layBoth (l : Launch) (hl : l.stackTraces = false) (G : xG_T) (n : Nat) (Ty : Nat → xs_T) (F : xF_T) (hC : WC n Ty F) (I : xI_T) (L : xL_T) (J : xI_T) (M : xL_T) (ss : Int32) (s1 s2 : Nat) (hQ : QS n Ty I F J) (hSh : ∀ s : Nat, s < 6 → shK n Ty I L F J M s) (hs1 : s1 < 6) (hs2 : s2 < 6) (e1 : ss / 10 = nI s1) (e2 : irm ss 10 = nI s2) : Cg l (212) 6 2020 yX0_layBoth cX0_layBoth 3 (some .int) G idC [.ref (xb G + 0), .int ss] n Ty I L F (xpX n Ty L F (aR (fun r I2 => r = m_noR J ss ∧ (¬ r < 0 → ∃ z zs : Nat, m_reads J M (nI s1) 70 45 = nI z ∧ RW I2 (m_reads J M (nI s1)) z ∧ RS I2 (m_reads J M (nI s1)) M s2 zs) ∧ Fr q2set I I2))) := by
  refine Cg.intro (cls := RX0) (pad := 1) (lv := [some (.ref (xb G + 0)), some (.int ss), none]) rfl (by decide) (Nat.le_of_ble_eq_true rfl) rfl (fun Θ h => ?_)
  have hI0 : I 0 1 = J 70 0 := hQ.1.1.1
  have hb := hQ.2.2.1.1
  obtain ⟨nb, hnb, enb, enx, hnI⟩ := hQ.nb
  have ekB : ∀ o : Int32, k_isB I o = m_isB J o := isB_k hI0
  refine x_aload_n h dX0_layBoth_0 rfl ?_
  refine x_iload_n h dX0_layBoth_1 rfl ?_
  refine x_bipush h dX0_layBoth_2 (10) rfl ?_
  refine x_idiv h dX0_layBoth_4 (by decide) ?_
  refine x_eqi (nI s1) e1 ?_
  refine x_callVWXi h (As := [.int _]) (k0_layRow l hl G n _ _ hC _ _ J M s1 hs1 (hSh s1 hs1) hI0 hb) w_X0_298 (mlt hC.1 rfl) (hC.2.1 _ _ rfl) dX0_layBoth_5 ⟨by decide, by decide⟩ ⟨by decide, by decide⟩ rfl (Nat.le_of_ble_eq_true rfl) (fun v5 n5 Ty5 J5 hn5 hT5 hp5 => ?_)
  have hC5 := hC.grow hn5 hT5
  refine x_istore_n h dX0_layBoth_8 rfl (by decide) [some (.ref (xb G + 0)), some (.int ss), some (.int v5)] rfl ?_
  refine x_iload_n h dX0_layBoth_9 rfl ?_
  refine x_if_ge h 17 dX0_layBoth_10 rfl (fun c10 => ?_) (fun c10 => ?_)
  · skip
    have hnl : ¬ m_noB J (nI s1) < 0 := by rw [← hp5.1]; exact Int32.not_lt.mpr c10
    obtain ⟨z, h45, hR⟩ := hp5.2.1 (noB_z hp5.1 (Int32.not_lt.mpr c10))
    refine x_aload_n h dX0_layBoth_17 rfl ?_
    refine x_iload_n h dX0_layBoth_18 rfl ?_
    refine x_bipush h dX0_layBoth_19 (10) rfl ?_
    refine x_irem h dX0_layBoth_21 (by decide) ?_
    refine x_eqi (nI s2) e2 ?_
    refine x_callVWXi h (As := [.int _]) (k0_laySeen l hl G n5 _ _ hC5 _ _ J M s2 hs2 ((hSh s2 hs2).gm hn5 hT5 (fun q k h1 _ => hp5.2.2 q k (fun z => by rcases z with z | z <;> omega)))) w_X0_352 (mlt hC5.1 rfl) (hC5.2.1 _ _ rfl) dX0_layBoth_22 ⟨by decide, by decide⟩ ⟨by decide, by decide⟩ rfl (Nat.le_of_ble_eq_true rfl) (fun v22 n22 Ty22 J22 hn22 hT22 hp22 => ?_)
    have hC22 := hC5.grow hn22 hT22
    have hE : v22 = m_noR J ss := by rw [noR_1 e1 e2, if_neg hnl]; exact hp22.1
    have hG : n ≤ n22 ∧ ∀ i : Nat, i < n → Ty22 i = Ty i := ⟨Nat.le_trans hn5 hn22, fun i hi => (hT22 i (Nat.lt_of_lt_of_le hi hn5)).trans (hT5 i hi)⟩
    have hZ : ¬ v22 < 0 → ∃ z zs : Nat, m_reads J M (nI s1) 70 45 = nI z ∧ RW J22 (m_reads J M (nI s1)) z ∧ RS J22 (m_reads J M (nI s1)) M s2 zs := fun y => by obtain ⟨zs, hS⟩ := hp22.2.1 (noB_z hp22.1 y); exact ⟨z, zs, h45, hR.fr ⟨hp22.2.2 0 19 (by decide), fun k => hp22.2.2 22 k (by omega)⟩ ⟨rfl, fun _ => rfl⟩, hS.mv rfl (fun _ => rfl) (reads_o (by decide) (by omega))⟩
    have hW : Fr q2set I J22 := (hp5.2.2.sub fun _ _ z => rset_q z).tr (hp22.2.2.sub fun _ _ z => sset_2 z)
    refine x_wid h (by decide) (by decide) ?_
    exact x_iret h dX0_layBoth_25 rfl ⟨hG.1, hG.2, rfl, rfl, _, rfl, hE, hZ, hW⟩
  · skip
    have hlt : m_noB J (nI s1) < 0 := by rw [← hp5.1]; exact Int32.not_le.mp c10
    have hE : v5 = m_noR J ss := by rw [noR_1 e1 e2, if_pos hlt]; exact hp5.1
    have hG := And.intro hn5 hT5
    have hZ : ¬ v5 < 0 → ∃ z zs : Nat, m_reads J M (nI s1) 70 45 = nI z ∧ RW J5 (m_reads J M (nI s1)) z ∧ RS J5 (m_reads J M (nI s1)) M s2 zs := fun y => absurd (Int32.not_le.mp c10) y
    have hW : Fr q2set I J5 := hp5.2.2.sub fun _ _ z => rset_q z
    refine x_iload_n h dX0_layBoth_13 rfl ?_
    refine x_goto h 25 dX0_layBoth_14 rfl ?_
    refine x_wid h (by decide) (by decide) ?_
    exact x_iret h dX0_layBoth_25 rfl ⟨hG.1, hG.2, rfl, rfl, _, rfl, hE, hZ, hW⟩
