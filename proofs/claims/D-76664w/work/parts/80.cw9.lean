/-! WALKS OF THE COMPONENT: rows read -/
theorem g_X24_7 : xfg RX24 7 24 0 := ⟨_, _, _, rfl, by decide, in_X24, q1487, rfl⟩
theorem g_X0_32 : xfg RX0 32 0 43 := ⟨_, _, _, rfl, by decide, in_X0, q753, rfl⟩
theorem m_X0_280 : xcv RX0 280 24 yX24_size cX24_size 1 (some .int) 0 := ⟨_, _, _, rfl, lw_V q856 q857 q858 q139 q859, rfl, by decide +kernel, by decide +kernel, by decide +kernel⟩
theorem m_X0_283 : xcv RX0 283 24 yX24_at cX24_at 2 (some .long) 1 := ⟨_, _, _, rfl, lw_V q860 q861 q862 q139 q863, rfl, by decide +kernel, by decide +kernel, by decide +kernel⟩
set_option maxHeartbeats 4000000 in
theorem k24_size (l : Launch) (G : xG_T) (n : Nat) (Ty : Nat → xs_T) (F : xF_T) (hC : WC n Ty F) (I : xI_T) (L : xL_T) (q a z : Nat) (hq : q < n) (hT : Ty q = some (.inl 24)) (hf : F q 0 = some a) (ha : a < n) (hTa : Ty a = some (.inr (1, z))) : CE l (0) yX24_size cX24_size 1 (some .int) G n Ty F [.ref (xb G + q)] I L (some (.int (nI z))) (I) := by
  refine Cg.intro (cls := RX24) (pad := 0) (lv := [some (.ref (xb G + q))]) rfl (by decide) (Nat.le_of_ble_eq_true rfl) rfl (fun Θ h => ?_)
  refine x_aload_n h dX24_size_0 rfl ?_
  refine x_getr h (j := a) g_X24_7 hq hT (by decide) hf dX24_size_1 ?_
  refine x_alen h ha hTa (by decide) (v := nI z) rfl dX24_size_4 ?_
  exact x_iret h dX24_size_5 rfl (xpE.to rfl rfl rfl rfl)
set_option maxHeartbeats 4000000 in
theorem k24_at (l : Launch) (G : xG_T) (n : Nat) (Ty : Nat → xs_T) (F : xF_T) (hC : WC n Ty F) (I : xI_T) (L : xL_T) (q a z : Nat) (i : Int32) (hq : q < n) (hT : Ty q = some (.inl 24)) (hf : F q 0 = some a) (ha : a < n) (hTa : Ty a = some (.inr (1, z))) (hi : vp_in i z) : CE l (0) yX24_at cX24_at 2 (some .long) G n Ty F [.ref (xb G + q), .int i] I L (some (.long ((I a (ix i)).toInt64))) (I) := by
  refine Cg.intro (cls := RX24) (pad := 0) (lv := [some (.ref (xb G + q)), some (.int i)]) rfl (by decide) (Nat.le_of_ble_eq_true rfl) rfl (fun Θ h => ?_)
  refine x_aload_n h dX24_at_0 rfl ?_
  refine x_getr h (j := a) g_X24_7 hq hT (by decide) hf dX24_at_1 ?_
  refine x_iload_n h dX24_at_4 rfl ?_
  refine x_bald h ha hTa hi _ rfl dX24_at_5 ?_
  refine x_i2l h dX24_at_6 ?_
  exact x_lret h dX24_at_7 rfl (xpE.to rfl rfl rfl rfl)
set_option maxHeartbeats 4000000 in
theorem k0_layRow (l : Launch) (hl : l.stackTraces = false) (G : xG_T) (n : Nat) (Ty : Nat → xs_T) (F : xF_T) (hC : WC n Ty F) (I : xI_T) (L : xL_T) (J : xI_T) (M : xL_T) (s : Nat) (hs : s < 6) (hSh : shK n Ty I L F J M s) (hI0 : I 0 1 = J 70 0) (hb : vp_in (J 70 0) 9) : CgW l 210 3 1010 yX0_layRow cX0_layRow 4 (some .int) [(5, 72, 75, 45), (5, 72, 79, 47)] G idC [.ref (xb G + 0), .int (nI s)] n Ty I L F (xpX n Ty L F (aR (fun r I2 => r = m_noB J (nI s) ∧ (r = 0 → ∃ z : Nat, m_reads J M (nI s) 70 45 = nI z ∧ RW I2 (m_reads J M (nI s)) z) ∧ Fr (fun q k => q = 22 ∨ (q = 0 ∧ k = 19)) I I2))) := by
  refine CgW.intro (cls := RX0) (pad := 2) (lv := [some (.ref (xb G + 0)), some (.int (nI s)), none, none]) rfl (by decide) (Nat.le_of_ble_eq_true rfl) rfl (fun Θ h hTb => ?_)
  refine x_aload_n h dX0_layRow_0 rfl ?_
  refine x_iconst h dX0_layRow_1 (0) rfl ?_
  refine x_puti h p_X0_275 (mlt hC.1 rfl) (hC.2.1 _ _ rfl) rfl rfl rfl dX0_layRow_2 (fun J2 eJ2 => ?_)
  refine x_aload_n h dX0_layRow_5 rfl ?_
  refine x_getr h (j := 33) g_X0_32 (mlt hC.1 rfl) (hC.2.1 _ _ rfl) (by decide) (hC.2.2 _ _ _ rfl) dX0_layRow_6 ?_
  refine x_iload_n h dX0_layRow_9 rfl ?_
  rcases hSh.byte with ⟨hnul, h90⟩ | ⟨q, a, z, hq, hqn, hqT, h90, hf, ha3, han, hz6, h91, haT, hval⟩ | ⟨q, ci, t, hq, hqn, hqT, hci, h90, ht0, ht1⟩
  · skip
    refine x_aaldn h (mlt hC.1 rfl) (hC.2.1 _ _ rfl) (by decide) rfl rfl (vp_in_nI hs (by decide)) (s) (nI_clamp (by omega)) hnul dX0_layRow_10 ?_
    refine x_castN h dX0_layRow_11 ?_
    refine x_astore_nN h dX0_layRow_14 rfl (by decide) [some (.ref (xb G + 0)), some (.int (nI s)), some (.null), none] rfl ?_
    refine x_iconst h dX0_layRow_15 (0) rfl ?_
    refine x_istore_n h dX0_layRow_16 rfl (by decide) [some (.ref (xb G + 0)), some (.int (nI s)), some (.null), some (.int 0)] rfl ?_
    refine x_iload_n h dX0_layRow_17 rfl ?_
    refine x_aload_nN h dX0_layRow_18 rfl ?_
    refine x_invN h (As := []) q856 ⟨Or.inl ⟨_, _, _, _, q857, q859, q858⟩, by decide, by decide⟩ (by decide +kernel) dX0_layRow_19 (x_noteN h hl (by decide) ⟨by decide, by decide⟩ (Nat.le_of_ble_eq_true rfl) (fun n9 hn99 => XN.catch h hTb (pre := [⟨5, 72, 75, 45⟩]) (x := ⟨5, 72, 79, 47⟩) (suf := _) rfl (fun z hz => by rw [List.mem_singleton.mp hz]; exact Or.inr ⟨by decide, _, q184, by decide +kernel⟩) (by decide) (by decide) q269 q291 (fun a9 => ?_)))
    refine x_astore_n h dX0_layRow_79 rfl (by decide) [some (.ref (xb G + 0)), some (.int (nI s)), some (.ref a9), some (.int 0)] rfl ?_
    refine x_bipush h dX0_layRow_80 (-11) rfl ?_
    refine x_wid h (by decide) (by decide) ?_
    exact x_iret h dX0_layRow_82 rfl ⟨hn99, xtr_t, rfl, rfl, _, rfl, (noB_e hs h90).symm, fun z => absurd z (by decide), (by rw [eJ2]; exact Fr.rf.up (Or.inr ⟨rfl, rfl⟩))⟩
  · skip
    refine x_aaldr h (q := q) (mlt hC.1 rfl) (hC.2.1 _ _ rfl) (by decide) rfl rfl (vp_in_nI hs (by decide)) (s) (nI_clamp (by omega)) hq dX0_layRow_10 ?_
    refine x_castS h q855 hqn hqT rfl dX0_layRow_11 ?_
    refine x_astore_n h dX0_layRow_14 rfl (by decide) [some (.ref (xb G + 0)), some (.int (nI s)), some (.ref (xb G + q)), none] rfl ?_
    refine x_iconst h dX0_layRow_15 (0) rfl ?_
    refine x_istore_n h dX0_layRow_16 rfl (by decide) [some (.ref (xb G + 0)), some (.int (nI s)), some (.ref (xb G + q)), some (.int 0)] rfl ?_
    have lp17 : ∀ (d : Nat) (k : Nat) (A K : xI_T), 21 - k < d → (rdF s M k I A J K) → X Θ 0 0 n Ty A L F 17 [some (.ref (xb G + 0)), some (.int (nI s)), some (.ref (xb G + q)), some (.int (nI k))] [] := by
      intro d
      induction d with
      | zero =>
        intro k A K hlt
        exact absurd hlt (Nat.not_lt_zero _)
      | succ d ih =>
        intro k A K hlt hr
        have hk20 := hr.2.2.1
        have hfr := hr.2.2.2.2.2.2
        have h01 : A 0 1 = J 70 0 := (hfr 0 1 (by decide) (by decide)).trans hI0
        have ekB : ∀ v : Int32, k_isB A v = m_isB J v := fun v => by unfold k_isB m_isB; rw [h01]
        refine x_iload_n h dX0_layRow_17 rfl ?_
        refine x_aload_n h dX0_layRow_18 rfl ?_
        refine x_callVEi h (As := []) (k24_size l G n _ _ hC _ _ q a z hqn hqT hf han haT) m_X0_280 hqn hqT dX0_layRow_19 ⟨by decide, by decide⟩ ⟨by decide, by decide⟩ rfl (Nat.le_of_ble_eq_true rfl) ?_
        refine x_icmp_ge h 72 dX0_layRow_22 rfl (fun c22 => ?_) (fun c22 => ?_)
        · skip
          have hst : z ≤ k ∨ 20 ≤ k ∨ m_isB J (M 92 (60 * s + k)).toInt32 = 0 := Or.inl ((nI_leI (by omega) (by omega)).mp c22)
          refine x_goto h 83 dX0_layRow_72 rfl ?_
          refine x_iconst h dX0_layRow_83 (0) rfl ?_
          refine x_wid h (by decide) (by decide) ?_
          exact x_iret h dX0_layRow_84 rfl ⟨Nat.le_refl _, fun _ _ => rfl, rfl, rfl, _, rfl, (noB_b hs h90).symm, fun _ => ⟨k, by have := hr.stop hs h91 hz6 hst; exact ⟨by rw [this.1]; exact hr.2.1, by rw [this.1]; exact this.2⟩⟩, fun q j y => hfr q j (fun e => y (Or.inl e)) (fun e => y (Or.inr e))⟩
        · skip
          have hkz : k < z := Nat.lt_of_not_le fun y => c22 ((nI_leI (by omega) (by omega)).mpr y)
          refine x_iload_n h dX0_layRow_25 rfl ?_
          refine x_bipush h dX0_layRow_26 (20) rfl ?_
          refine x_icmp_ge h 72 dX0_layRow_28 rfl (fun c28 => ?_) (fun c28 => ?_)
          · skip
            have hst : z ≤ k ∨ 20 ≤ k ∨ m_isB J (M 92 (60 * s + k)).toInt32 = 0 := Or.inr (Or.inl ((nI_leI (by decide) (by omega)).mp c28))
            refine x_goto h 83 dX0_layRow_72 rfl ?_
            refine x_iconst h dX0_layRow_83 (0) rfl ?_
            refine x_wid h (by decide) (by decide) ?_
            exact x_iret h dX0_layRow_84 rfl ⟨Nat.le_refl _, fun _ _ => rfl, rfl, rfl, _, rfl, (noB_b hs h90).symm, fun _ => ⟨k, by have := hr.stop hs h91 hz6 hst; exact ⟨by rw [this.1]; exact hr.2.1, by rw [this.1]; exact this.2⟩⟩, fun q j y => hfr q j (fun e => y (Or.inl e)) (fun e => y (Or.inr e))⟩
          · skip
            have hk2 : k < 20 := Nat.lt_of_not_le fun y => c28 ((nI_leI (by decide) (by omega)).mpr y)
            have hvv : (A a (ix (nI k))).toInt64.toInt32 = (M 92 (60 * s + k)).toInt32 := by rw [ix_n (by omega), hfr a k (by have := ha3; omega) (by have := ha3; omega), hval k hkz]
            refine x_aload_n h dX0_layRow_31 rfl ?_
            refine x_aload_n h dX0_layRow_32 rfl ?_
            refine x_iload_n h dX0_layRow_33 rfl ?_
            refine x_callVEl h (As := [.int _]) (k24_at l G n _ _ hC _ _ q a z (nI k) hqn hqT hf han haT (vp_in_nI hkz (by omega))) m_X0_283 hqn hqT dX0_layRow_34 ⟨by decide, by decide⟩ ⟨by decide, by decide⟩ rfl (Nat.le_of_ble_eq_true rfl) ?_
            refine x_l2i h dX0_layRow_37 ?_
            refine x_callVEi h (As := [.int _]) (k0_isBuyer l G n _ _ hC _ _ _ ) m_X0_11 (mlt hC.1 rfl) (hC.2.1 _ _ rfl) dX0_layRow_38 ⟨by decide, by decide⟩ ⟨by decide, by decide⟩ rfl (Nat.le_of_ble_eq_true rfl) ?_
            refine x_if_eq h 72 dX0_layRow_41 rfl (fun c41 => ?_) (fun c41 => ?_)
            · skip
              have hst : z ≤ k ∨ 20 ≤ k ∨ m_isB J (M 92 (60 * s + k)).toInt32 = 0 := Or.inr (Or.inr (by rw [← hvv, ← ekB]; exact c41))
              refine x_goto h 83 dX0_layRow_72 rfl ?_
              refine x_iconst h dX0_layRow_83 (0) rfl ?_
              refine x_wid h (by decide) (by decide) ?_
              exact x_iret h dX0_layRow_84 rfl ⟨Nat.le_refl _, fun _ _ => rfl, rfl, rfl, _, rfl, (noB_b hs h90).symm, fun _ => ⟨k, by have := hr.stop hs h91 hz6 hst; exact ⟨by rw [this.1]; exact hr.2.1, by rw [this.1]; exact this.2⟩⟩, fun q j y => hfr q j (fun e => y (Or.inl e)) (fun e => y (Or.inr e))⟩
            · skip
              have d41 : ¬ m_isB J (M 92 (60 * s + k)).toInt32 = 0 := by rw [← hvv, ← ekB]; exact c41
              obtain ⟨w, hw2, hw8, ew⟩ := isB_y hb d41
              refine x_aload_n h dX0_layRow_44 rfl ?_
              refine x_getr h (j := 22) g_X0_183 (mlt hC.1 rfl) (hC.2.1 _ _ rfl) (by decide) (hC.2.2 _ _ _ rfl) dX0_layRow_45 ?_
              refine x_iload_n h dX0_layRow_48 rfl ?_
              refine x_aload_n h dX0_layRow_49 rfl ?_
              refine x_iload_n h dX0_layRow_50 rfl ?_
              refine x_callVEl h (As := [.int _]) (k24_at l G n _ _ hC _ _ q a z (nI k) hqn hqT hf han haT (vp_in_nI hkz (by omega))) m_X0_283 hqn hqT dX0_layRow_51 ⟨by decide, by decide⟩ ⟨by decide, by decide⟩ rfl (Nat.le_of_ble_eq_true rfl) ?_
              refine x_l2i h dX0_layRow_54 ?_
              refine x_iast h (mlt hC.1 rfl) (hC.2.1 _ _ rfl) (vp_in_nI (show k < 21 by omega) (by decide)) (k) (nI_clamp (by omega)) dX0_layRow_55 (fun J55 eJ55 => ?_)
              refine x_aload_n h dX0_layRow_56 rfl ?_
              refine x_dup h dX0_layRow_57 rfl ?_
              refine x_geti h g_X0_275 (mlt hC.1 rfl) (hC.2.1 _ _ rfl) rfl dX0_layRow_58 ?_
              refine x_eqi (nI k) (by rw [eJ55, up2_i _ _ (by decide)]; exact hr.2.2.2.2.1) ?_
              refine x_iconst h dX0_layRow_61 (1) rfl ?_
              refine x_iaddE h (nI (k + 1)) (nI_add k 1) dX0_layRow_62 ?_
              refine x_puti h p_X0_275 (mlt hC.1 rfl) (hC.2.1 _ _ rfl) rfl rfl rfl dX0_layRow_63 (fun J63 eJ63 => ?_)
              refine x_iinc h dX0_layRow_66 (by decide) rfl (nI (k + 1)) (nI_1 k) [some (.ref (xb G + 0)), some (.int (nI s)), some (.ref (xb G + q)), some (.int (nI (k + 1)))] rfl ?_
              refine x_goto h 17 dX0_layRow_69 rfl ?_
              exact ih (k + 1) J63 (up2 (up2 K 96 k (M 92 (60 * s + k)).toInt32) 70 45 (nI (k + 1))) (by omega) (by rw [eJ63, eJ55, hvv]; exact hr.step hk2 hs h91 hz6 hkz rfl d41 ew hw2)
    exact lp17 22 0 J2 (up2 J 70 45 0) (by omega) (by rw [eJ2]; exact rdF.start)
  · skip
    obtain ⟨C9, T9, N9, hcl9, hp9⟩ := nobyte hci
    refine x_aaldr h (q := q) (mlt hC.1 rfl) (hC.2.1 _ _ rfl) (by decide) rfl rfl (vp_in_nI hs (by decide)) (s) (nI_clamp (by omega)) hq dX0_layRow_10 ?_
    refine x_castF h q855 hqn hqT hcl9 hp9 dX0_layRow_11 (fun t9 ht9 hn9 => x_note h hl xb_cce ht9 hn9 (by decide) ⟨by decide, by decide⟩ (Nat.le_of_ble_eq_true rfl) (fun n9 hn99 => XN.catch h hTb (pre := []) (x := ⟨5, 72, 75, 45⟩) (suf := _) rfl (fun z hz => absurd hz List.not_mem_nil) (by decide) (by decide) q184 q246 (fun a9 => ?_)))
    refine x_astore_n h dX0_layRow_75 rfl (by decide) [some (.ref (xb G + 0)), some (.int (nI s)), some (.ref a9), none] rfl ?_
    refine x_bipush h dX0_layRow_76 (-12) rfl ?_
    refine x_wid h (by decide) (by decide) ?_
    exact x_iret h dX0_layRow_78 rfl ⟨hn99, xtr_t, rfl, rfl, _, rfl, (noB_o hs h90 ht0 ht1).symm, fun z => absurd z (by decide), (by rw [eJ2]; exact Fr.rf.up (Or.inr ⟨rfl, rfl⟩))⟩
