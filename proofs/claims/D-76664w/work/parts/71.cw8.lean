/-! WALKS OF THE COMPONENT: orders' answers -/
theorem m_X0_331 : xcs RX0 331 yJ13_bitCount cJ13_bitCount 1 (some .int) 1 := ⟨lw_S q985 q986 q127 q987, by decide +kernel, by decide +kernel, by decide +kernel⟩
def RB (I J : xI_T) : Prop := ∀ k : Nat, k < 5 → I 23 k = J 101 k
set_option maxHeartbeats 4000000 in
theorem k0_order (l : Launch) (G : xG_T) (n : Nat) (Ty : Nat → xs_T) (F : xF_T) (hC : WC n Ty F) (I : xI_T) (L : xL_T) (J : xI_T) (s o q : Int32) (hQ : QS n Ty I F J) (hB : RB I J) : CR l (275) yX0_order cX0_order 5 (some .int) G n Ty F [.ref (xb G + 0), .int s, .int o, .int q] I L (aR (fun r I2 => r = (m_order J s o q).1 ∧ RB I2 (m_order J s o q).2 ∧ Fr qset I I2)) := by
  refine Cg.intro (cls := RX0) (pad := 1) (lv := [some (.ref (xb G + 0)), some (.int s), some (.int o), some (.int q), none]) rfl (by decide) (Nat.le_of_ble_eq_true rfl) rfl (fun Θ h => ?_)
  have hI0 : I 0 1 = J 70 0 := hQ.1.1.1
  obtain ⟨nb, hnb, enb, enx, hnI⟩ := hQ.nb
  have ekB : k_isB I o = m_isB J o := by unfold k_isB m_isB; rw [hI0]
  skip
  refine x_iload_n h dX0_order_0 rfl ?_
  refine x_iconst h dX0_order_1 (0) rfl ?_
  refine x_iconst h dX0_order_2 (1) rfl ?_
  refine x_aload_n h dX0_order_3 rfl ?_
  refine x_geti h g_X0_1 (mlt hC.1 rfl) (hC.2.1 _ _ rfl) rfl dX0_order_4 ?_
  refine x_ishl h dX0_order_7 ?_
  refine x_iconst h dX0_order_8 (1) rfl ?_
  refine x_isub h dX0_order_9 ?_
  refine x_callSEi h (As := [.int _, .int _, .int _]) (k0_in l G n _ _ hC _ _ _ _ _ ) m_X0_7 dX0_order_10 ⟨by decide, by decide⟩ ⟨by decide, by decide⟩ rfl (Nat.le_of_ble_eq_true rfl) ?_
  refine x_if_eq h 29 dX0_order_13 rfl (fun c13 => ?_) (fun c13 => ?_)
  · skip
    have hz := ordx_1 (J := J) (s := s) (o := o) (k := q) (Or.inl (by rw [← hI0]; exact c13))
    have hz2 : (m_order J s o q).2 = J := by unfold m_order; rw [if_pos (by rw [← hI0]; exact c13)]
    refine x_iconst h dX0_order_29 (-1) rfl ?_
    exact x_iret h dX0_order_30 rfl ⟨rfl, rfl, rfl, rfl, _, rfl, hz.symm, by rw [hz2]; exact hB, Fr.rf⟩
  · skip
    have d13 : ¬ inR s 0 ((1 <<< (J 70 0 &&& 31)) - 1) = 0 := by rw [← hI0]; exact c13
    refine x_aload_n h dX0_order_16 rfl ?_
    refine x_iload_n h dX0_order_17 rfl ?_
    refine x_callVEi h (As := [.int _]) (k0_isBuyer l G n _ _ hC _ _ _ ) m_X0_11 (mlt hC.1 rfl) (hC.2.1 _ _ rfl) dX0_order_18 ⟨by decide, by decide⟩ ⟨by decide, by decide⟩ rfl (Nat.le_of_ble_eq_true rfl) ?_
    refine x_if_eq h 29 dX0_order_21 rfl (fun c21 => ?_) (fun c21 => ?_)
    · skip
      have hz := ordx_1 (J := J) (s := s) (o := o) (k := q) (Or.inr (Or.inl (by rw [← ekB]; exact c21)))
      have hz2 : (m_order J s o q).2 = J := by unfold m_order; rw [if_neg d13, if_pos (by rw [← ekB]; exact c21)]
      refine x_iconst h dX0_order_29 (-1) rfl ?_
      exact x_iret h dX0_order_30 rfl ⟨rfl, rfl, rfl, rfl, _, rfl, hz.symm, by rw [hz2]; exact hB, Fr.rf⟩
    · skip
      have d21 : ¬ m_isB J o = 0 := by rw [← ekB]; exact c21
      obtain ⟨y, hy, hy8, ey⟩ := isB_y hQ.2.2.1.1 d21
      refine x_iload_n h dX0_order_24 rfl ?_
      refine x_iconst h dX0_order_25 (-1) rfl ?_
      refine x_icmp_ge h 31 dX0_order_26 rfl (fun c26 => ?_) (fun c26 => ?_)
      · skip
        have n26 := Int32.not_lt.mpr c26
        have hz := ordx_2 d13 d21 n26
        refine x_iload_n h dX0_order_31 rfl ?_
        refine x_callSEi h (As := [.int _]) (t_bitCount l G _ n _ _ _ _ _) m_X0_331 dX0_order_32 ⟨by decide, by decide⟩ ⟨by decide, by decide⟩ rfl (Nat.le_of_ble_eq_true rfl) ?_
        refine x_nmi (fun v35 ev35 => ?_)
        refine x_istore h dX0_order_35 (by decide) [some (.ref (xb G + 0)), some (.int s), some (.int o), some (.int q), some (.int v35)] rfl ?_
        refine x_iload h dX0_order_37 rfl ?_
        refine x_iconst h dX0_order_39 (5) rfl ?_
        refine x_icmp_le h 46 dX0_order_40 rfl (fun c40 => ?_) (fun c40 => ?_)
        · skip
          have n40 := Int32.not_lt.mpr c40
          rw [if_neg (show ¬ 5 < bitc s by rw [← ev35]; exact n40)] at hz
          refine x_iload_n h dX0_order_46 rfl ?_
          refine x_iload h dX0_order_47 rfl ?_
          refine x_icmp_lt h 55 dX0_order_49 rfl (fun c49 => ?_) (fun c49 => ?_)
          · skip
            have n49 := Int32.not_le.mpr c49
            rw [if_neg (show ¬ bitc s ≤ q by rw [← ev35]; exact Int32.not_le.mpr c49)] at hz
            obtain ⟨t, ht, rfl⟩ := set_t hnb (by rw [enb] at d13; exact d13)
            have hbc := bitc0 ⟨t, ht⟩
            have hp5 : pcn t ≤ 5 := by simp only at hbc; rw [ev35, hbc] at c40; exact (nI_leI (by simp only [pcn]; omega) (by decide)).mp c40
            have hrs := RO.start (I := I) (J := J)
            refine x_aload_n h dX0_order_55 rfl ?_
            refine x_iconst h dX0_order_56 (0) rfl ?_
            refine x_puti h p_X0_275 (mlt hC.1 rfl) (hC.2.1 _ _ rfl) rfl rfl rfl dX0_order_57 (fun J57 eJ57 => ?_)
            refine x_aload_n h dX0_order_60 rfl ?_
            refine x_iconst h dX0_order_61 (-1) rfl ?_
            refine x_puti h p_X0_322 (mlt hC.1 rfl) (hC.2.1 _ _ rfl) rfl rfl rfl dX0_order_62 (fun J62 eJ62 => ?_)
            refine x_aload_n h dX0_order_65 rfl ?_
            refine x_iload_n h dX0_order_66 rfl ?_
            refine x_iload_n h dX0_order_67 rfl ?_
            subst ey
            have hQ2 : QS n Ty J62 F (up2 J 70 52 (-1)) := hQ.mv (fun a b z => by rw [eJ62, eJ57, up2_n _ _ (by unfold pI at z; omega), up2_n _ _ (by unfold pI at z; omega)]) (fun a b z => up2_n _ _ (by unfold pJ at z; omega))
            refine x_callVRv h (As := [.int _, .int _]) (k0_ords 6 l G n _ _ hC _ _ (up2 J 70 52 (-1)) 0 t y (by omega) (by omega) ht hQ2 (by rw [eJ62, eJ57]; exact hrs.mpr hB) (by rw [up2_k _ _ (by decide)]; exact hy)) m_X0_328 (mlt hC.1 rfl) (hC.2.1 _ _ rfl) dX0_order_68 ⟨by decide, by decide⟩ ⟨by decide, by decide⟩ rfl (Nat.le_of_ble_eq_true rfl) (fun J68 hp68 => ?_)
            have hfr : Fr qset I J68 := (((Fr.rf (S := oset)).up (a := 0) (b := 19) (v := 0) (Or.inr (Or.inl ⟨rfl, Or.inl rfl⟩))).up (a := 0) (b := 21) (v := -1) (Or.inr (Or.inl ⟨rfl, Or.inr rfl⟩))).tr (by rw [← eJ57, ← eJ62]; exact hp68.2) |>.oq
            refine x_iload_n h dX0_order_71 rfl ?_
            refine x_if_ge h 82 dX0_order_72 rfl (fun c72 => ?_) (fun c72 => ?_)
            · skip
              refine x_aload_n h dX0_order_82 rfl ?_
              refine x_getr h (j := 23) g_X0_187 (mlt hC.1 rfl) (hC.2.1 _ _ rfl) (by decide) (hC.2.2 _ _ _ rfl) dX0_order_83 ?_
              refine x_iload_n h dX0_order_86 rfl ?_
              refine x_iald h (mlt hC.1 rfl) (hC.2.1 _ _ rfl) (ord_k (t := pcn t) (Int32.not_lt.mp n26) (by simp only at hbc; rw [← hbc, ← ev35]; exact c49) (ge0_k c72) hp5) _ rfl dX0_order_87 ?_
              exact x_iret h dX0_order_88 rfl ⟨rfl, rfl, rfl, rfl, _, rfl, by rw [hz]; first | (show _ = if q = -1 then _ else _; rw [if_neg (ge0_k c72)]; exact hp68.1.2.2.2 _ (nI_ix (ord_k (t := pcn t) (Int32.not_lt.mp n26) (by simp only at hbc; rw [← hbc, ← ev35]; exact c49) (ge0_k c72) hp5) (by decide)).2) | (show _ = if q = -1 then _ else _; rw [if_pos (lt0_k (Int32.not_lt.mp n26) c72)]; exact hp68.1.2.2.1), by rw [hz]; exact hp68.1.2.2.2, hfr⟩
            · skip
              refine x_aload_n h dX0_order_75 rfl ?_
              refine x_geti h g_X0_322 (mlt hC.1 rfl) (hC.2.1 _ _ rfl) rfl dX0_order_76 ?_
              refine x_goto h 88 dX0_order_79 rfl ?_
              exact x_iret h dX0_order_88 rfl ⟨rfl, rfl, rfl, rfl, _, rfl, by rw [hz]; first | (show _ = if q = -1 then _ else _; rw [if_neg (ge0_k c72)]; exact hp68.1.2.2.2 _ (nI_ix (ord_k (t := pcn t) (Int32.not_lt.mp n26) (by simp only at hbc; rw [← hbc, ← ev35]; exact c49) (ge0_k c72) hp5) (by decide)).2) | (show _ = if q = -1 then _ else _; rw [if_pos (lt0_k (Int32.not_lt.mp n26) c72)]; exact hp68.1.2.2.1), by rw [hz]; exact hp68.1.2.2.2, hfr⟩
          · skip
            have n49 := Int32.not_lt.mp c49
            rw [if_pos (show bitc s ≤ q by rw [← ev35]; exact n49)] at hz
            refine x_bipush h dX0_order_52 (-2) rfl ?_
            exact x_iret h dX0_order_54 rfl ⟨rfl, rfl, rfl, rfl, _, rfl, by rw [hz], by rw [hz]; exact hB, Fr.rf⟩
        · skip
          have n40 := Int32.not_le.mp c40
          rw [if_pos (show 5 < bitc s by rw [← ev35]; exact n40)] at hz
          refine x_bipush h dX0_order_43 (-5) rfl ?_
          exact x_iret h dX0_order_45 rfl ⟨rfl, rfl, rfl, rfl, _, rfl, by rw [hz], by rw [hz]; exact hB, Fr.rf⟩
      · skip
        have n26 := Int32.not_le.mp c26
        have hz := ordx_1 (J := J) (s := s) (o := o) (k := q) (Or.inr (Or.inr n26))
        have hz2 : (m_order J s o q).2 = J := by unfold m_order; rw [if_neg d13, if_neg d21, if_pos n26]
        refine x_iconst h dX0_order_29 (-1) rfl ?_
        exact x_iret h dX0_order_30 rfl ⟨rfl, rfl, rfl, rfl, _, rfl, hz.symm, by rw [hz2]; exact hB, Fr.rf⟩
