/-! WALKS OF THE COMPONENT: by turns -/
theorem g_X0_374 : xfg RX0 374 0 24 := ⟨_, _, _, rfl, by decide, in_X0, q732, rfl⟩
theorem g_X0_377 : xfg RX0 377 0 25 := ⟨_, _, _, rfl, by decide, in_X0, q733, rfl⟩
theorem m_X0_380 : xcv RX0 380 0 yX0_bestOf cX0_bestOf 7 (some .int) 2 := ⟨_, _, _, rfl, lw_V q1062 q1064 qs45 q99 q1065, rfl, by decide +kernel, by decide +kernel, by decide +kernel⟩
set_option maxHeartbeats 4000000 in
theorem k0_best0 (l : Launch) (G : xG_T) (n : Nat) (Ty : Nat → xs_T) (F : xF_T) (hC : WC n Ty F) (I : xI_T) (L : xL_T) (J : xI_T) (i g a b : Nat) (hid : i + 0 ≤ 5) (hgi : g = 34 + 6 * i) (hS : KS n Ty I F J) (hR : RC I J g) (hM : Wmk J) (hW : Wlaw J) (h24 : I 0 24 = nI a) (h25 : I 0 25 = nI b) (ha : a < ix (J 70 0)) (hb : b < ix (J 70 0)) : CR l (262 + 0) yX0_bestOf cX0_bestOf 7 (some .int) G n Ty F [.ref (xb G + 0), .int (nI i), .int (nI 0)] I L (aR (fun r I2 => r = (m_turn (nI a) (nI b) 0 i J).1 ∧ Fr (tset i) I I2)) := by
  refine Cg.intro (cls := RX0) (pad := 4) (lv := [some (.ref (xb G + 0)), some (.int (nI i)), some (.int (nI 0)), none, none, none, none]) rfl (by decide) (Nat.le_of_ble_eq_true rfl) rfl (fun Θ h => ?_)
  obtain ⟨nb, hnb, enb⟩ : ∃ nb : Nat, nb < 9 ∧ J 70 0 = nI nb := vp_in_of hM.1 (by decide)
  have enx : ix (J 70 0) = nb := by rw [enb]; exact ix_n (by omega)
  have htg := tho_at hC i (by omega)
  rw [← hgi] at htg
  have hg := hC.mk htg.2
  refine x_aload_n h dX0_bestOf_0 rfl ?_
  refine x_getr h (j := 12) g_X0_174 (mlt hC.1 rfl) (hC.2.1 _ _ rfl) (by decide) (hC.2.2 _ _ _ rfl) dX0_bestOf_1 ?_
  refine x_iload_n h dX0_bestOf_4 rfl ?_
  refine x_aaldr h (q := g) (mlt hC.1 rfl) (hC.2.1 _ _ rfl) (by decide) rfl rfl (vp_in_nI (show i < 6 by omega) (by decide)) (i) (nI_clamp (by omega)) htg.1 dX0_bestOf_5 ?_
  refine x_astore_n h dX0_bestOf_6 rfl (by decide) [some (.ref (xb G + 0)), some (.int (nI i)), some (.int (nI 0)), some (.ref (xb G + g)), none, none, none] rfl ?_
  refine x_iload_n h dX0_bestOf_7 rfl ?_
  refine x_if_ne h 31 dX0_bestOf_8 rfl (fun c8 => ?_) (fun c8 => ?_)
  · skip
    exact absurd (show nI 0 = 0 from rfl) c8
  · skip
    refine x_aload_n h dX0_bestOf_11 rfl ?_
    refine x_getrN h (j := g + 1) g_X0_207 hg.l0 hg.1.2 (by decide) hg.2.2.1 dX0_bestOf_12 ?_
    refine x_aload_n h dX0_bestOf_15 rfl ?_
    refine x_geti h g_X0_374 (mlt hC.1 rfl) (hC.2.1 _ _ rfl) rfl dX0_bestOf_16 ?_
    refine x_eqi (nI a) h24 ?_
    refine x_iald h hg.l1 hg.2.1.1 (vp_in_nI (show a < 8 by omega) (by decide)) (a) (nI_clamp (by omega)) dX0_bestOf_19 ?_
    refine x_aload_n h dX0_bestOf_20 rfl ?_
    refine x_getrN h (j := g + 1) g_X0_207 hg.l0 hg.1.2 (by decide) hg.2.2.1 dX0_bestOf_21 ?_
    refine x_aload_n h dX0_bestOf_24 rfl ?_
    refine x_geti h g_X0_377 (mlt hC.1 rfl) (hC.2.1 _ _ rfl) rfl dX0_bestOf_25 ?_
    refine x_eqi (nI b) h25 ?_
    refine x_iald h hg.l1 hg.2.1.1 (vp_in_nI (show b < 8 by omega) (by decide)) (b) (nI_clamp (by omega)) dX0_bestOf_28 ?_
    refine x_isub h dX0_bestOf_29 ?_
    exact x_iret h dX0_bestOf_30 rfl ⟨rfl, rfl, rfl, rfl, _, rfl, by unfold m_turn; rw [(hR.1 a ha).1, (hR.1 b hb).1, ix_n (show a < 2147483648 by omega), ix_n (show b < 2147483648 by omega)], Fr.rf⟩
set_option maxHeartbeats 4000000 in
theorem k0_bestS (l : Launch) (G : xG_T) (n : Nat) (Ty : Nat → xs_T) (F : xF_T) (hC : WC n Ty F) (I : xI_T) (L : xL_T) (d : Nat) (IH : BstC d) (J : xI_T) (i g a b : Nat) (hid : i + (d + 1) ≤ 5) (hgi : g = 34 + 6 * i) (hS : KS n Ty I F J) (hR : RC I J g) (hM : Wmk J) (hW : Wlaw J) (h24 : I 0 24 = nI a) (h25 : I 0 25 = nI b) (ha : a < ix (J 70 0)) (hb : b < ix (J 70 0)) : CR l (262 + (d + 1)) yX0_bestOf cX0_bestOf 7 (some .int) G n Ty F [.ref (xb G + 0), .int (nI i), .int (nI (d + 1))] I L (aR (fun r I2 => r = (m_turn (nI a) (nI b) (d + 1) i J).1 ∧ Fr (tset i) I I2)) := by
  refine Cg.intro (cls := RX0) (pad := 4) (lv := [some (.ref (xb G + 0)), some (.int (nI i)), some (.int (nI (d + 1))), none, none, none, none]) rfl (by decide) (Nat.le_of_ble_eq_true rfl) rfl (fun Θ h => ?_)
  obtain ⟨nb, hnb, enb⟩ : ∃ nb : Nat, nb < 9 ∧ J 70 0 = nI nb := vp_in_of hM.1 (by decide)
  have enx : ix (J 70 0) = nb := by rw [enb]; exact ix_n (by omega)
  have htg := tho_at hC i (by omega)
  rw [← hgi] at htg
  have hg := hC.mk htg.2
  obtain ⟨g2, hgi2⟩ : ∃ g2 : Nat, g2 = 34 + 6 * (i + 1) := ⟨_, rfl⟩
  have htg2 := tho_at hC (i + 1) (by omega)
  rw [← hgi2] at htg2
  have hg2 := hC.mk htg2.2
  have h703 : trK (nI a) (nI b) d i J 70 0 = J 70 0 := trK_o ⟨by decide, by decide, by decide, by decide, fun _ => Or.inl (by decide)⟩ (by decide)
  have hW3 := trK_W (a := nI a) (b := nI b) (d := d) (i := i) hM hW
  have hT := turn_s (a := nI a) (b := nI b) (d := d) (i := i) (I := J)
  refine x_aload_n h dX0_bestOf_0 rfl ?_
  refine x_getr h (j := 12) g_X0_174 (mlt hC.1 rfl) (hC.2.1 _ _ rfl) (by decide) (hC.2.2 _ _ _ rfl) dX0_bestOf_1 ?_
  refine x_iload_n h dX0_bestOf_4 rfl ?_
  refine x_aaldr h (q := g) (mlt hC.1 rfl) (hC.2.1 _ _ rfl) (by decide) rfl rfl (vp_in_nI (show i < 6 by omega) (by decide)) (i) (nI_clamp (by omega)) htg.1 dX0_bestOf_5 ?_
  refine x_astore_n h dX0_bestOf_6 rfl (by decide) [some (.ref (xb G + 0)), some (.int (nI i)), some (.int (nI (d + 1))), some (.ref (xb G + g)), none, none, none] rfl ?_
  refine x_iload_n h dX0_bestOf_7 rfl ?_
  refine x_if_ne h 31 dX0_bestOf_8 rfl (fun c8 => ?_) (fun c8 => ?_)
  · skip
    refine x_iload_n h dX0_bestOf_31 rfl ?_
    refine x_iconst h dX0_bestOf_32 (2) rfl ?_
    refine x_irem h dX0_bestOf_33 (by decide) ?_
    refine x_eqi (nI (i % 2)) (pk_rem (a := i) (d := 2) (by omega) (by decide) (by decide)) ?_
    refine x_if_ne h 41 dX0_bestOf_34 rfl (fun c34 => ?_) (fun c34 => ?_)
    · skip
      have hi2 : ¬ i % 2 = 0 := fun y => c34 (by rw [y]; rfl)
      obtain ⟨x9, hx9, ex9, ex9b⟩ : ∃ x9 : Nat, x9 < ix (J 70 0) ∧ x9 = b ∧ (if i % 2 = 0 then nI a else nI b) = nI x9 := ⟨b, hb, rfl, if_neg hi2⟩
      refine x_iconst h dX0_bestOf_41 (0) rfl ?_
      refine x_istore h dX0_bestOf_42 (by decide) [some (.ref (xb G + 0)), some (.int (nI i)), some (.int (nI (d + 1))), some (.ref (xb G + g)), some (.int 0), none, none] rfl ?_
      refine x_aload_n h dX0_bestOf_44 rfl ?_
      refine x_getr h (j := 12) g_X0_174 (mlt hC.1 rfl) (hC.2.1 _ _ rfl) (by decide) (hC.2.2 _ _ _ rfl) dX0_bestOf_45 ?_
      refine x_iload_n h dX0_bestOf_48 rfl ?_
      refine x_iconst h dX0_bestOf_49 (1) rfl ?_
      refine x_iaddE h (nI (i + 1)) (nI_add i 1) dX0_bestOf_50 ?_
      refine x_aaldr h (q := g2) (mlt hC.1 rfl) (hC.2.1 _ _ rfl) (by decide) rfl rfl (vp_in_nI (show i + 1 < 6 by omega) (by decide)) (i + 1) (nI_clamp (by omega)) htg2.1 dX0_bestOf_51 ?_
      refine x_aload_n h dX0_bestOf_52 rfl ?_
      refine x_callVEv h (As := [.ref _]) (k2_likeThat l G n _ _ hC _ _ g2 g hg2 hg) m_X0_216 hg2.l0 hg2.1.2 dX0_bestOf_53 ⟨by omega, by decide⟩ ⟨by decide, by decide⟩ rfl (Nat.le_of_ble_eq_true rfl) ?_
      refine x_nmI (fun J53 eJ53 => ?_)
      have hf53 : Fr (tset i) I J53 := by rw [eJ53]; exact fun q k z => klike_o (by unfold tset at z; omega)
      have hR53 : RC J53 J g2 := by rw [eJ53]; exact like_R hR hM (by omega)
      have hS53 : KS n Ty J53 F J := hS.tr4 (hf53.sub fun q k z => by unfold tset at z; omega) (fun _ _ _ _ => rfl)
      refine x_aload_n h dX0_bestOf_56 rfl ?_
      refine x_iload_n h dX0_bestOf_57 rfl ?_
      refine x_iconst h dX0_bestOf_58 (1) rfl ?_
      refine x_iaddE h (nI (i + 1)) (nI_add i 1) dX0_bestOf_59 ?_
      refine x_iload_n h dX0_bestOf_60 rfl ?_
      refine x_iconst h dX0_bestOf_61 (1) rfl ?_
      refine x_isubE h (nI d) (nI_pred d) dX0_bestOf_62 ?_
      refine x_callVRi h (As := [.int _, .int _]) (IH l G n _ _ hC _ _ J (i + 1) g2 a b (by omega) hgi2 hS53 hR53 hM hW (by rw [hf53 0 24 (by unfold tset; omega)]; exact h24) (by rw [hf53 0 25 (by unfold tset; omega)]; exact h25) ha hb) m_X0_380 (mlt hC.1 rfl) (hC.2.1 _ _ rfl) dX0_bestOf_63 ⟨by omega, by decide⟩ ⟨by decide, by decide⟩ rfl (Nat.le_of_ble_eq_true rfl) (fun v63 J63 hp63 => ?_)
      have hf63 : Fr (tset i) I J63 := hf53.tr (hp63.2.sub fun q k z => by unfold tset at z ⊢; omega)
      have hg63 : ∀ q k : Nat, g ≤ q → q ≤ g + 5 → J63 q k = I q k := fun q k h1 h2 => hf63 q k (by unfold tset; omega)
      refine x_istore h dX0_bestOf_66 (by decide) [some (.ref (xb G + 0)), some (.int (nI i)), some (.int (nI (d + 1))), some (.ref (xb G + g)), some (.int 0), some (.int v63), none] rfl ?_
      refine x_aload_n h dX0_bestOf_68 rfl ?_
      refine x_getr h (j := 12) g_X0_174 (mlt hC.1 rfl) (hC.2.1 _ _ rfl) (by decide) (hC.2.2 _ _ _ rfl) dX0_bestOf_69 ?_
      refine x_iload_n h dX0_bestOf_72 rfl ?_
      refine x_iconst h dX0_bestOf_73 (1) rfl ?_
      refine x_iaddE h (nI (i + 1)) (nI_add i 1) dX0_bestOf_74 ?_
      refine x_aaldr h (q := g2) (mlt hC.1 rfl) (hC.2.1 _ _ rfl) (by decide) rfl rfl (vp_in_nI (show i + 1 < 6 by omega) (by decide)) (i + 1) (nI_clamp (by omega)) htg2.1 dX0_bestOf_75 ?_
      refine x_aload_n h dX0_bestOf_76 rfl ?_
      refine x_callVEv h (As := [.ref _]) (k2_likeThat l G n _ _ hC _ _ g2 g hg2 hg) m_X0_216 hg2.l0 hg2.1.2 dX0_bestOf_77 ⟨by omega, by decide⟩ ⟨by decide, by decide⟩ rfl (Nat.le_of_ble_eq_true rfl) ?_
      refine x_nmI (fun J77 eJ77 => ?_)
      have hf77 : Fr (tset i) I J77 := hf63.tr (by rw [eJ77]; exact fun q k z => klike_o (by unfold tset at z; omega))
      have hR77 : RC J77 (trK (nI a) (nI b) d i J) g2 := by rw [eJ77]; exact like_R (trK_R hR hM hg63) hW3.1 (by omega)
      have hS77 : KS n Ty J77 F (trK (nI a) (nI b) d i J) := hS.tr4 (hf77.sub fun q k z => by unfold tset at z; omega) (fun q k y1 y2 => trK_o y1 y2)
      refine x_aload_n h dX0_bestOf_80 rfl ?_
      refine x_aload_n h dX0_bestOf_81 rfl ?_
      refine x_getr h (j := 12) g_X0_174 (mlt hC.1 rfl) (hC.2.1 _ _ rfl) (by decide) (hC.2.2 _ _ _ rfl) dX0_bestOf_82 ?_
      refine x_iload_n h dX0_bestOf_85 rfl ?_
      refine x_iconst h dX0_bestOf_86 (1) rfl ?_
      refine x_iaddE h (nI (i + 1)) (nI_add i 1) dX0_bestOf_87 ?_
      refine x_aaldr h (q := g2) (mlt hC.1 rfl) (hC.2.1 _ _ rfl) (by decide) rfl rfl (vp_in_nI (show i + 1 < 6 by omega) (by decide)) (i + 1) (nI_clamp (by omega)) htg2.1 dX0_bestOf_88 ?_
      refine x_iload h dX0_bestOf_89 rfl ?_
      refine x_if_eq h 101 dX0_bestOf_91 rfl (fun c91 => ?_) (fun c91 => ?_)
      · skip
        refine x_aload_n h dX0_bestOf_101 rfl ?_
        refine x_geti h g_X0_377 (mlt hC.1 rfl) (hC.2.1 _ _ rfl) rfl dX0_bestOf_102 ?_
        refine x_eqi (nI x9) (by rw [hf77 0 25 (by unfold tset; omega), ex9]; exact h25) ?_
        refine x_callVRv h (As := [.ref _, .int _]) (k0_comesIn l G n _ _ hC _ _ (trK (nI a) (nI b) d i J) g2 x9 hg2 ⟨by omega, by omega⟩ hS77 hR77 hW3.1 hW3.2 (by rw [h703]; exact hx9)) m_X0_284 (mlt hC.1 rfl) (hC.2.1 _ _ rfl) dX0_bestOf_105 ⟨by omega, by decide⟩ ⟨by decide, by decide⟩ rfl (Nat.le_of_ble_eq_true rfl) (fun J105 hp105 => ?_)
        have hf105 : Fr (tset i) I J105 := hf77.tr (hp105.2.2.2.sub fun q k z => by unfold cset at z; unfold tset; omega)
        have hS105 : KS n Ty J105 F (m_goes1 (trK (nI a) (nI b) d i J) (nI x9)) := (hS.tr4 (hf105.sub fun q k z => by unfold tset at z; omega) (fun q k y1 y2 => (goes1_o y1).trans (trK_o y1 y2)))
        have hx98 : vp_in (nI x9) 8 := vp_in_nI (by omega) (by decide)
        have e70 : m_goes1 (trK (nI a) (nI b) d i J) (nI x9) 70 0 = J 70 0 := (goes1_o ⟨by decide, by decide, by decide, by decide, fun _ => Or.inl (by decide)⟩).trans h703
        refine x_aload_n h dX0_bestOf_108 rfl ?_
        refine x_iload_n h dX0_bestOf_109 rfl ?_
        refine x_iconst h dX0_bestOf_110 (1) rfl ?_
        refine x_iaddE h (nI (i + 1)) (nI_add i 1) dX0_bestOf_111 ?_
        refine x_iload_n h dX0_bestOf_112 rfl ?_
        refine x_iconst h dX0_bestOf_113 (1) rfl ?_
        refine x_isubE h (nI d) (nI_pred d) dX0_bestOf_114 ?_
        refine x_callVRi h (As := [.int _, .int _]) (IH l G n _ _ hC _ _ (m_goes1 (trK (nI a) (nI b) d i J) (nI x9)) (i + 1) g2 a b (by omega) hgi2 hS105 hp105.1 (hW3.1.goes1 hx98) hW3.2.goes1 (by rw [hf105 0 24 (by unfold tset; omega)]; exact h24) (by rw [hf105 0 25 (by unfold tset; omega)]; exact h25) (by rw [e70]; exact ha) (by rw [e70]; exact hb)) m_X0_380 (mlt hC.1 rfl) (hC.2.1 _ _ rfl) dX0_bestOf_115 ⟨by omega, by decide⟩ ⟨by decide, by decide⟩ rfl (Nat.le_of_ble_eq_true rfl) (fun v115 J115 hp115 => ?_)
        have hf115 : Fr (tset i) I J115 := hf105.tr (hp115.2.sub fun q k z => by unfold tset at z ⊢; omega)
        have hv115 : v115 = (m_comesAt (nI a) (nI b) d i (m_turn (nI a) (nI b) d (i + 1) J).2).1 := by rw [hp115.1, ← ex9b]; exact trK_1
        refine x_istore h dX0_bestOf_118 (by decide) [some (.ref (xb G + 0)), some (.int (nI i)), some (.int (nI (d + 1))), some (.ref (xb G + g)), some (.int 0), some (.int v63), some (.int v115)] rfl ?_
        refine x_iload h dX0_bestOf_120 rfl ?_
        refine x_if_eq h 135 dX0_bestOf_122 rfl (fun c122 => ?_) (fun c122 => ?_)
        · skip
          refine x_iload h dX0_bestOf_135 rfl ?_
          refine x_iload h dX0_bestOf_137 rfl ?_
          refine x_mmin h q903 (by omega) ⟨by decide, by decide⟩ (Nat.le_of_ble_eq_true rfl) dX0_bestOf_139 ?_
          exact x_iret h dX0_bestOf_142 rfl ⟨rfl, rfl, rfl, rfl, _, rfl, by rw [hT]; first | (rw [if_pos hi2, ← hv115, ← hp63.1]; done) | (rw [if_neg hi2, ← hv115, ← hp63.1]; done), hf115⟩
        · exact absurd c122 (by decide)
      · exact absurd c91 (by decide)
    · skip
      have hi2 : i % 2 = 0 := by have := (nI_eq (a := i % 2) (b := 0) (by omega) (by omega)).mp c34; exact this
      obtain ⟨x9, hx9, ex9, ex9b⟩ : ∃ x9 : Nat, x9 < ix (J 70 0) ∧ x9 = a ∧ (if i % 2 = 0 then nI a else nI b) = nI x9 := ⟨a, ha, rfl, if_pos hi2⟩
      refine x_iconst h dX0_bestOf_37 (1) rfl ?_
      refine x_goto h 42 dX0_bestOf_38 rfl ?_
      refine x_istore h dX0_bestOf_42 (by decide) [some (.ref (xb G + 0)), some (.int (nI i)), some (.int (nI (d + 1))), some (.ref (xb G + g)), some (.int 1), none, none] rfl ?_
      refine x_aload_n h dX0_bestOf_44 rfl ?_
      refine x_getr h (j := 12) g_X0_174 (mlt hC.1 rfl) (hC.2.1 _ _ rfl) (by decide) (hC.2.2 _ _ _ rfl) dX0_bestOf_45 ?_
      refine x_iload_n h dX0_bestOf_48 rfl ?_
      refine x_iconst h dX0_bestOf_49 (1) rfl ?_
      refine x_iaddE h (nI (i + 1)) (nI_add i 1) dX0_bestOf_50 ?_
      refine x_aaldr h (q := g2) (mlt hC.1 rfl) (hC.2.1 _ _ rfl) (by decide) rfl rfl (vp_in_nI (show i + 1 < 6 by omega) (by decide)) (i + 1) (nI_clamp (by omega)) htg2.1 dX0_bestOf_51 ?_
      refine x_aload_n h dX0_bestOf_52 rfl ?_
      refine x_callVEv h (As := [.ref _]) (k2_likeThat l G n _ _ hC _ _ g2 g hg2 hg) m_X0_216 hg2.l0 hg2.1.2 dX0_bestOf_53 ⟨by omega, by decide⟩ ⟨by decide, by decide⟩ rfl (Nat.le_of_ble_eq_true rfl) ?_
      refine x_nmI (fun J53 eJ53 => ?_)
      have hf53 : Fr (tset i) I J53 := by rw [eJ53]; exact fun q k z => klike_o (by unfold tset at z; omega)
      have hR53 : RC J53 J g2 := by rw [eJ53]; exact like_R hR hM (by omega)
      have hS53 : KS n Ty J53 F J := hS.tr4 (hf53.sub fun q k z => by unfold tset at z; omega) (fun _ _ _ _ => rfl)
      refine x_aload_n h dX0_bestOf_56 rfl ?_
      refine x_iload_n h dX0_bestOf_57 rfl ?_
      refine x_iconst h dX0_bestOf_58 (1) rfl ?_
      refine x_iaddE h (nI (i + 1)) (nI_add i 1) dX0_bestOf_59 ?_
      refine x_iload_n h dX0_bestOf_60 rfl ?_
      refine x_iconst h dX0_bestOf_61 (1) rfl ?_
      refine x_isubE h (nI d) (nI_pred d) dX0_bestOf_62 ?_
      refine x_callVRi h (As := [.int _, .int _]) (IH l G n _ _ hC _ _ J (i + 1) g2 a b (by omega) hgi2 hS53 hR53 hM hW (by rw [hf53 0 24 (by unfold tset; omega)]; exact h24) (by rw [hf53 0 25 (by unfold tset; omega)]; exact h25) ha hb) m_X0_380 (mlt hC.1 rfl) (hC.2.1 _ _ rfl) dX0_bestOf_63 ⟨by omega, by decide⟩ ⟨by decide, by decide⟩ rfl (Nat.le_of_ble_eq_true rfl) (fun v63 J63 hp63 => ?_)
      have hf63 : Fr (tset i) I J63 := hf53.tr (hp63.2.sub fun q k z => by unfold tset at z ⊢; omega)
      have hg63 : ∀ q k : Nat, g ≤ q → q ≤ g + 5 → J63 q k = I q k := fun q k h1 h2 => hf63 q k (by unfold tset; omega)
      refine x_istore h dX0_bestOf_66 (by decide) [some (.ref (xb G + 0)), some (.int (nI i)), some (.int (nI (d + 1))), some (.ref (xb G + g)), some (.int 1), some (.int v63), none] rfl ?_
      refine x_aload_n h dX0_bestOf_68 rfl ?_
      refine x_getr h (j := 12) g_X0_174 (mlt hC.1 rfl) (hC.2.1 _ _ rfl) (by decide) (hC.2.2 _ _ _ rfl) dX0_bestOf_69 ?_
      refine x_iload_n h dX0_bestOf_72 rfl ?_
      refine x_iconst h dX0_bestOf_73 (1) rfl ?_
      refine x_iaddE h (nI (i + 1)) (nI_add i 1) dX0_bestOf_74 ?_
      refine x_aaldr h (q := g2) (mlt hC.1 rfl) (hC.2.1 _ _ rfl) (by decide) rfl rfl (vp_in_nI (show i + 1 < 6 by omega) (by decide)) (i + 1) (nI_clamp (by omega)) htg2.1 dX0_bestOf_75 ?_
      refine x_aload_n h dX0_bestOf_76 rfl ?_
      refine x_callVEv h (As := [.ref _]) (k2_likeThat l G n _ _ hC _ _ g2 g hg2 hg) m_X0_216 hg2.l0 hg2.1.2 dX0_bestOf_77 ⟨by omega, by decide⟩ ⟨by decide, by decide⟩ rfl (Nat.le_of_ble_eq_true rfl) ?_
      refine x_nmI (fun J77 eJ77 => ?_)
      have hf77 : Fr (tset i) I J77 := hf63.tr (by rw [eJ77]; exact fun q k z => klike_o (by unfold tset at z; omega))
      have hR77 : RC J77 (trK (nI a) (nI b) d i J) g2 := by rw [eJ77]; exact like_R (trK_R hR hM hg63) hW3.1 (by omega)
      have hS77 : KS n Ty J77 F (trK (nI a) (nI b) d i J) := hS.tr4 (hf77.sub fun q k z => by unfold tset at z; omega) (fun q k y1 y2 => trK_o y1 y2)
      refine x_aload_n h dX0_bestOf_80 rfl ?_
      refine x_aload_n h dX0_bestOf_81 rfl ?_
      refine x_getr h (j := 12) g_X0_174 (mlt hC.1 rfl) (hC.2.1 _ _ rfl) (by decide) (hC.2.2 _ _ _ rfl) dX0_bestOf_82 ?_
      refine x_iload_n h dX0_bestOf_85 rfl ?_
      refine x_iconst h dX0_bestOf_86 (1) rfl ?_
      refine x_iaddE h (nI (i + 1)) (nI_add i 1) dX0_bestOf_87 ?_
      refine x_aaldr h (q := g2) (mlt hC.1 rfl) (hC.2.1 _ _ rfl) (by decide) rfl rfl (vp_in_nI (show i + 1 < 6 by omega) (by decide)) (i + 1) (nI_clamp (by omega)) htg2.1 dX0_bestOf_88 ?_
      refine x_iload h dX0_bestOf_89 rfl ?_
      refine x_if_eq h 101 dX0_bestOf_91 rfl (fun c91 => ?_) (fun c91 => ?_)
      · exact absurd c91 (by decide)
      · skip
        refine x_aload_n h dX0_bestOf_94 rfl ?_
        refine x_geti h g_X0_374 (mlt hC.1 rfl) (hC.2.1 _ _ rfl) rfl dX0_bestOf_95 ?_
        refine x_eqi (nI x9) (by rw [hf77 0 24 (by unfold tset; omega), ex9]; exact h24) ?_
        refine x_goto h 105 dX0_bestOf_98 rfl ?_
        refine x_callVRv h (As := [.ref _, .int _]) (k0_comesIn l G n _ _ hC _ _ (trK (nI a) (nI b) d i J) g2 x9 hg2 ⟨by omega, by omega⟩ hS77 hR77 hW3.1 hW3.2 (by rw [h703]; exact hx9)) m_X0_284 (mlt hC.1 rfl) (hC.2.1 _ _ rfl) dX0_bestOf_105 ⟨by omega, by decide⟩ ⟨by decide, by decide⟩ rfl (Nat.le_of_ble_eq_true rfl) (fun J105 hp105 => ?_)
        have hf105 : Fr (tset i) I J105 := hf77.tr (hp105.2.2.2.sub fun q k z => by unfold cset at z; unfold tset; omega)
        have hS105 : KS n Ty J105 F (m_goes1 (trK (nI a) (nI b) d i J) (nI x9)) := (hS.tr4 (hf105.sub fun q k z => by unfold tset at z; omega) (fun q k y1 y2 => (goes1_o y1).trans (trK_o y1 y2)))
        have hx98 : vp_in (nI x9) 8 := vp_in_nI (by omega) (by decide)
        have e70 : m_goes1 (trK (nI a) (nI b) d i J) (nI x9) 70 0 = J 70 0 := (goes1_o ⟨by decide, by decide, by decide, by decide, fun _ => Or.inl (by decide)⟩).trans h703
        refine x_aload_n h dX0_bestOf_108 rfl ?_
        refine x_iload_n h dX0_bestOf_109 rfl ?_
        refine x_iconst h dX0_bestOf_110 (1) rfl ?_
        refine x_iaddE h (nI (i + 1)) (nI_add i 1) dX0_bestOf_111 ?_
        refine x_iload_n h dX0_bestOf_112 rfl ?_
        refine x_iconst h dX0_bestOf_113 (1) rfl ?_
        refine x_isubE h (nI d) (nI_pred d) dX0_bestOf_114 ?_
        refine x_callVRi h (As := [.int _, .int _]) (IH l G n _ _ hC _ _ (m_goes1 (trK (nI a) (nI b) d i J) (nI x9)) (i + 1) g2 a b (by omega) hgi2 hS105 hp105.1 (hW3.1.goes1 hx98) hW3.2.goes1 (by rw [hf105 0 24 (by unfold tset; omega)]; exact h24) (by rw [hf105 0 25 (by unfold tset; omega)]; exact h25) (by rw [e70]; exact ha) (by rw [e70]; exact hb)) m_X0_380 (mlt hC.1 rfl) (hC.2.1 _ _ rfl) dX0_bestOf_115 ⟨by omega, by decide⟩ ⟨by decide, by decide⟩ rfl (Nat.le_of_ble_eq_true rfl) (fun v115 J115 hp115 => ?_)
        have hf115 : Fr (tset i) I J115 := hf105.tr (hp115.2.sub fun q k z => by unfold tset at z ⊢; omega)
        have hv115 : v115 = (m_comesAt (nI a) (nI b) d i (m_turn (nI a) (nI b) d (i + 1) J).2).1 := by rw [hp115.1, ← ex9b]; exact trK_1
        refine x_istore h dX0_bestOf_118 (by decide) [some (.ref (xb G + 0)), some (.int (nI i)), some (.int (nI (d + 1))), some (.ref (xb G + g)), some (.int 1), some (.int v63), some (.int v115)] rfl ?_
        refine x_iload h dX0_bestOf_120 rfl ?_
        refine x_if_eq h 135 dX0_bestOf_122 rfl (fun c122 => ?_) (fun c122 => ?_)
        · exact absurd c122 (by decide)
        · skip
          refine x_iload h dX0_bestOf_125 rfl ?_
          refine x_iload h dX0_bestOf_127 rfl ?_
          refine x_mmax h q936 (by omega) ⟨by decide, by decide⟩ (Nat.le_of_ble_eq_true rfl) dX0_bestOf_129 ?_
          refine x_goto h 142 dX0_bestOf_132 rfl ?_
          exact x_iret h dX0_bestOf_142 rfl ⟨rfl, rfl, rfl, rfl, _, rfl, by rw [hT]; first | (rw [if_pos hi2, ← hv115, ← hp63.1]; done) | (rw [if_neg hi2, ← hv115, ← hp63.1]; done), hf115⟩
  · skip
    exact absurd c8 (nI_ne0 (by omega) (by omega))
theorem k0_best : ∀ d : Nat, BstC d
  | 0 => fun l G n Ty F hC I L J i g a b h1 h2 h3 h4 h5 h6 h7 h8 h9 h10 => k0_best0 l G n Ty F hC I L J i g a b h1 h2 h3 h4 h5 h6 h7 h8 h9 h10
  | d + 1 => fun l G n Ty F hC I L J i g a b h1 h2 h3 h4 h5 h6 h7 h8 h9 h10 => k0_bestS l G n Ty F hC I L d (k0_best d) J i g a b h1 h2 h3 h4 h5 h6 h7 h8 h9 h10
