/-! WALKS OF THE COMPONENT: a coming in deed -/
theorem p_X0_385 : xfp RX0 385 0 26 (tyX0 26) false := ⟨_, _, _, tyX0, rfl, by decide, in_X0, q734, rfl, tyX0_ok, nmX0, tyX0_ok 26 (by decide), rfl⟩
theorem p_X0_388 : xfp RX0 388 0 27 (tyX0 27) false := ⟨_, _, _, tyX0, rfl, by decide, in_X0, q735, rfl, tyX0_ok, nmX0, tyX0_ok 27 (by decide), rfl⟩
theorem p_X0_391 : xfp RX0 391 0 28 (tyX0 28) false := ⟨_, _, _, tyX0, rfl, by decide, in_X0, q736, rfl, tyX0_ok, nmX0, tyX0_ok 28 (by decide), rfl⟩
set_option maxHeartbeats 4000000 in
theorem k0_layNow6 (l : Launch) (G : xG_T) (n : Nat) (Ty : Nat → xs_T) (F : xF_T) (hC : WC n Ty F) (I : xI_T) (L : xL_T) (J : xI_T) (hL : RL n Ty I F J) (hM : Wmk J) : CR l (3) yX0_layNow cX0_layNow 2 (some (.object "ThirdAfter$Market")) G n Ty F [.ref (xb G + 0)] I L (aQ G 34 (fun I2 => ((∀ J2 : xI_T, eqL J J2 → RC I2 J2 34) ∧ (∀ J2 : xI_T, eqL J J2 → RC I2 J2 6) ∧ ∀ b : Nat, b < 8 → I2 37 b = I 9 b) ∧ Fr lset I I2)) := by
  refine Cg.intro (cls := RX0) (pad := 1) (lv := [some (.ref (xb G + 0)), none]) rfl (by decide) (Nat.le_of_ble_eq_true rfl) rfl (fun Θ h => ?_)
  obtain ⟨nb, hnb, enb⟩ : ∃ nb : Nat, nb < 9 ∧ J 70 0 = nI nb := vp_in_of hM.1 (by decide)
  have enx : ix (J 70 0) = nb := by rw [enb]; exact ix_n (by omega)
  refine x_iconst h dX0_layNow_0 (0) rfl ?_
  refine x_istore_n h dX0_layNow_1 rfl (by decide) [some (.ref (xb G + 0)), some (.int 0)] rfl ?_
  have lp2 : ∀ (d : Nat) (k : Nat) (A : xI_T), nb - k < d → (k ≤ nb) → (∀ b : Nat, b < k → A 7 b = J 72 b ∧ A 8 b = J 71 b) → (Fr (fun q _ => q = 7 ∨ q = 8) I A) → X Θ 0 0 n Ty A L F 2 [some (.ref (xb G + 0)), some (.int (nI k))] [] := by
    intro d
    induction d with
    | zero =>
      intro k A hlt
      exact absurd hlt (Nat.not_lt_zero _)
    | succ d ih =>
      intro k A hlt hk hA hf
      have h01 : A 0 1 = nI nb := by rw [hf 0 1 (by decide), hL.1.1]; exact enb
      refine x_iload_n h dX0_layNow_2 rfl ?_
      refine x_aload_n h dX0_layNow_3 rfl ?_
      refine x_geti h g_X0_1 (mlt hC.1 rfl) (hC.2.1 _ _ rfl) rfl dX0_layNow_4 ?_
      refine x_icmp_ge h 52 dX0_layNow_7 rfl (fun c7 => ?_) (fun c7 => ?_)
      · skip
        have hkb : k = nb := Nat.le_antisymm hk (nleN h01 (by omega) (by omega) c7)
        refine x_aload_n h dX0_layNow_52 rfl ?_
        refine x_getr h (j := 6) g_X0_170 (mlt hC.1 rfl) (hC.2.1 _ _ rfl) (by decide) (hC.2.2 _ _ _ rfl) dX0_layNow_53 ?_
        refine x_aload_n h dX0_layNow_56 rfl ?_
        refine x_geti h g_X0_60 (mlt hC.1 rfl) (hC.2.1 _ _ rfl) rfl dX0_layNow_57 ?_
        refine x_putiN h p_X0_211 (mlt hC.1 rfl) (hC.2.1 _ _ rfl) rfl rfl rfl dX0_layNow_60 (fun J60 eJ60 => ?_)
        refine x_aload_n h dX0_layNow_63 rfl ?_
        refine x_getr h (j := 6) g_X0_170 (mlt hC.1 rfl) (hC.2.1 _ _ rfl) (by decide) (hC.2.2 _ _ _ rfl) dX0_layNow_64 ?_
        refine x_aload_n h dX0_layNow_67 rfl ?_
        refine x_geti h g_X0_66 (mlt hC.1 rfl) (hC.2.1 _ _ rfl) rfl dX0_layNow_68 ?_
        refine x_putiN h p_X0_212 (mlt hC.1 rfl) (hC.2.1 _ _ rfl) rfl rfl rfl dX0_layNow_71 (fun J71 eJ71 => ?_)
        refine x_aload_n h dX0_layNow_74 rfl ?_
        refine x_getr h (j := 6) g_X0_170 (mlt hC.1 rfl) (hC.2.1 _ _ rfl) (by decide) (hC.2.2 _ _ _ rfl) dX0_layNow_75 ?_
        refine x_iconst h dX0_layNow_78 (0) rfl ?_
        refine x_putiN h p_X0_213 (mlt hC.1 rfl) (hC.2.1 _ _ rfl) rfl rfl rfl dX0_layNow_79 (fun J79 eJ79 => ?_)
        refine x_aload_n h dX0_layNow_82 rfl ?_
        refine x_getr h (j := 12) g_X0_174 (mlt hC.1 rfl) (hC.2.1 _ _ rfl) (by decide) (hC.2.2 _ _ _ rfl) dX0_layNow_83 ?_
        refine x_iconst h dX0_layNow_86 (0) rfl ?_
        refine x_aaldr h (q := 34) (mlt hC.1 rfl) (hC.2.1 _ _ rfl) (by decide) rfl rfl (xk rfl) 0 rfl (hC.2.2 _ _ _ rfl) dX0_layNow_87 ?_
        refine x_aload_n h dX0_layNow_88 rfl ?_
        refine x_getr h (j := 6) g_X0_170 (mlt hC.1 rfl) (hC.2.1 _ _ rfl) (by decide) (hC.2.2 _ _ _ rfl) dX0_layNow_89 ?_
        refine x_callVEv h (As := [.ref _]) (k2_likeThat l G n _ _ hC _ _ 34 6 (hC.mk (Or.inr (Or.inr (Or.inl rfl)))) (hC.mk (Or.inl rfl))) m_X0_216 (mlt hC.1 rfl) (hC.2.1 _ _ rfl) dX0_layNow_92 ⟨by decide, by decide⟩ ⟨by decide, by decide⟩ rfl (Nat.le_of_ble_eq_true rfl) ?_
        refine x_nmI (fun J92 eJ92 => ?_)
        refine x_aload_n h dX0_layNow_95 rfl ?_
        refine x_getr h (j := 12) g_X0_174 (mlt hC.1 rfl) (hC.2.1 _ _ rfl) (by decide) (hC.2.2 _ _ _ rfl) dX0_layNow_96 ?_
        refine x_iconst h dX0_layNow_99 (0) rfl ?_
        refine x_aaldr h (q := 34) (mlt hC.1 rfl) (hC.2.1 _ _ rfl) (by decide) rfl rfl (xk rfl) 0 rfl (hC.2.2 _ _ _ rfl) dX0_layNow_100 ?_
        have hE := lay_E hL (fun b hb => hA b (by rw [hkb, ← enx]; exact hb)) hf hM
        have hE6 := lay_E6 hL (fun b hb => hA b (by rw [hkb, ← enx]; exact hb)) hf hM
        skip
        exact x_aret h dX0_layNow_101 (Or.inl ⟨_, rfl⟩) rfl ⟨rfl, rfl, rfl, rfl, rfl, by rw [eJ92, eJ79, eJ71, eJ60]; exact ⟨⟨hE.1, hE6.1, fun b hb9 => by rw [show (37 : Nat) = 34 + 3 from rfl, klike_a (Or.inl (by decide)) (Or.inl ⟨Or.inr (Or.inr rfl), rfl⟩) hb9, up2_i _ _ (by decide), up2_i _ _ (by decide), up2_i _ _ (by decide)]; exact hf 9 b (by omega)⟩, hE.2⟩⟩
      · skip
        have hkb : k < nb := nltN h01 (by omega) (by omega) c7
        obtain ⟨q, hq, ⟨hq1, hqn⟩, hqT, hq2, hq3⟩ := hL.2.1 k (by rw [enx]; exact hkb)
        refine x_aload_n h dX0_layNow_10 rfl ?_
        refine x_getr h (j := 6) g_X0_170 (mlt hC.1 rfl) (hC.2.1 _ _ rfl) (by decide) (hC.2.2 _ _ _ rfl) dX0_layNow_11 ?_
        refine x_getrN h (j := 7) g_X0_207 (mlt hC.1 rfl) (hC.2.1 _ _ rfl) (by decide) (hC.2.2 _ _ _ rfl) dX0_layNow_14 ?_
        refine x_iload_n h dX0_layNow_17 rfl ?_
        refine x_aload_n h dX0_layNow_18 rfl ?_
        refine x_getr h (j := 1) g_X0_15 (mlt hC.1 rfl) (hC.2.1 _ _ rfl) (by decide) (hC.2.2 _ _ _ rfl) dX0_layNow_19 ?_
        refine x_iload_n h dX0_layNow_22 rfl ?_
        refine x_aaldr h (q := q) (mlt hC.1 rfl) (hC.2.1 _ _ rfl) (by decide) rfl rfl (vp_in_nI (show k < 8 by omega) (by decide)) (k) (nI_clamp (by omega)) hq dX0_layNow_23 ?_
        refine x_getiN h g_X0_42 hqn hqT rfl dX0_layNow_24 ?_
        refine x_iast h (mlt hC.1 rfl) (hC.2.1 _ _ rfl) (vp_in_nI (show k < 8 by omega) (by decide)) (k) (nI_clamp (by omega)) dX0_layNow_27 (fun J27 eJ27 => ?_)
        refine x_aload_n h dX0_layNow_28 rfl ?_
        refine x_getr h (j := 6) g_X0_170 (mlt hC.1 rfl) (hC.2.1 _ _ rfl) (by decide) (hC.2.2 _ _ _ rfl) dX0_layNow_29 ?_
        refine x_getrN h (j := 8) g_X0_209 (mlt hC.1 rfl) (hC.2.1 _ _ rfl) (by decide) (hC.2.2 _ _ _ rfl) dX0_layNow_32 ?_
        refine x_iload_n h dX0_layNow_35 rfl ?_
        refine x_aload_n h dX0_layNow_36 rfl ?_
        refine x_getr h (j := 1) g_X0_15 (mlt hC.1 rfl) (hC.2.1 _ _ rfl) (by decide) (hC.2.2 _ _ _ rfl) dX0_layNow_37 ?_
        refine x_iload_n h dX0_layNow_40 rfl ?_
        refine x_aaldr h (q := q) (mlt hC.1 rfl) (hC.2.1 _ _ rfl) (by decide) rfl rfl (vp_in_nI (show k < 8 by omega) (by decide)) (k) (nI_clamp (by omega)) hq dX0_layNow_41 ?_
        refine x_getiN h g_X0_51 hqn hqT rfl dX0_layNow_42 ?_
        refine x_iast h (mlt hC.1 rfl) (hC.2.1 _ _ rfl) (vp_in_nI (show k < 8 by omega) (by decide)) (k) (nI_clamp (by omega)) dX0_layNow_45 (fun J45 eJ45 => ?_)
        refine x_iinc h dX0_layNow_46 (by decide) rfl (nI (k + 1)) (nI_1 k) [some (.ref (xb G + 0)), some (.int (nI (k + 1)))] rfl ?_
        refine x_goto h 2 dX0_layNow_49 rfl ?_
        exact ih (k + 1) J45 (by omega) (by omega) (by rw [eJ45, eJ27]; exact (lay_s hA hf hq1 hq2 hq3).1) (by rw [eJ45, eJ27]; exact (lay_s hA hf hq1 hq2 hq3).2)
  exact lp2 (nb + 1) 0 I (by omega) (by omega) (fun b hb => absurd hb (Nat.not_lt_zero _)) Fr.rf
set_option maxHeartbeats 4000000 in
theorem k0_comesIn2 (l : Launch) (G : xG_T) (n : Nat) (Ty : Nat → xs_T) (F : xF_T) (hC : WC n Ty F) (I : xI_T) (L : xL_T) (J : xI_T) (g x : Nat) (hg : mkT n Ty F g) (hg34 : 34 ≤ g ∧ g + 5 < 70) (hS : KS n Ty I F J) (hR : RC I J g) (hM : Wmk J) (hW : Wlaw J) (hx : x < ix (J 70 0)) : CR l (261) yX0_comesIn cX0_comesIn 6 (none) G n Ty F [.ref (xb G + 0), .ref (xb G + g), .int (nI x)] I L (aV (fun I2 => goF g I J I2 (m_goes1 J (nI x)) ∧ ∀ b : Nat, b ≠ x → I2 (g + 3) b = I (g + 3) b)) := by
  refine Cg.intro (cls := RX0) (pad := 3) (lv := [some (.ref (xb G + 0)), some (.ref (xb G + g)), some (.int (nI x)), none, none, none]) rfl (by decide) (Nat.le_of_ble_eq_true rfl) rfl (fun Θ h => ?_)
  have hb8 : ix (J 70 0) ≤ 8 := by obtain ⟨z, hz, ez⟩ := vp_in_of hM.1 (by decide); rw [ez, ix_n (by omega)]; omega
  have hx8 : x < 8 := by omega
  have hc : vp_in (nI x) 8 := vp_in_nI hx8 (by decide)
  have hnn := none_R hR hb8 hg34.1
  refine x_aload_n h dX0_comesIn_0 rfl ?_
  refine x_bipush h dX0_comesIn_1 (8) rfl ?_
  refine x_puti h p_X0_243 (mlt hC.1 rfl) (hC.2.1 _ _ rfl) rfl rfl rfl dX0_comesIn_3 (fun J3 eJ3 => ?_)
  refine x_aload_n h dX0_comesIn_6 rfl ?_
  refine x_iconst h dX0_comesIn_7 (0) rfl ?_
  refine x_puti h p_X0_240 (mlt hC.1 rfl) (hC.2.1 _ _ rfl) rfl rfl rfl dX0_comesIn_8 (fun J8 eJ8 => ?_)
  refine x_aload_n h dX0_comesIn_11 rfl ?_
  refine x_iconst h dX0_comesIn_12 (0) rfl ?_
  refine x_puti h p_X0_246 (mlt hC.1 rfl) (hC.2.1 _ _ rfl) rfl rfl rfl dX0_comesIn_13 (fun J13 eJ13 => ?_)
  have h13 : J13 = k_none I := by rw [eJ13, eJ8, eJ3]; rfl
  refine x_aload_n h dX0_comesIn_16 rfl ?_
  refine x_iload_n h dX0_comesIn_17 rfl ?_
  refine x_callVEi h (As := [.int _]) (k0_counts l G n _ _ hC _ _ J x (by rw [h13]; exact hS.1.mv (fun q k z => knone_o (by omega)) (knone_o (by omega)) (knone_o (by omega)) rfl rfl (fun _ _ => rfl)) hb8 hx) m_X0_249 (mlt hC.1 rfl) (hC.2.1 _ _ rfl) dX0_comesIn_18 ⟨by decide, by decide⟩ ⟨by decide, by decide⟩ rfl (Nat.le_of_ble_eq_true rfl) ?_
  refine x_if_ne h 25 dX0_comesIn_21 rfl (fun c21 => ?_) (fun c21 => ?_)
  · skip
    have ho : ¬ m_out J (nI x) = true := fun z => by rw [if_pos z] at c21; exact c21 rfl
    refine x_aload_n h dX0_comesIn_25 rfl ?_
    refine x_getrN h (j := g + 1) g_X0_207 hg.l0 hg.1.2 (by decide) hg.2.2.1 dX0_comesIn_26 ?_
    refine x_iload_n h dX0_comesIn_29 rfl ?_
    refine x_iald h hg.l1 hg.2.1.1 (vp_in_nI (show x < 8 by omega) (by decide)) (x) (nI_clamp (by omega)) dX0_comesIn_30 ?_
    refine x_nmi (fun v31 ev31 => ?_)
    refine x_istore_n h dX0_comesIn_31 rfl (by decide) [some (.ref (xb G + 0)), some (.ref (xb G + g)), some (.int (nI x)), some (.int v31), none, none] rfl ?_
    have lp32 : ∀ (d : Nat) (e : Nat) (A K : xI_T), e < d → (m_payAll (nI x) 7 (m_none J) = m_payAll (nI x) e K) → (ix (K 72 18) < e) → (Wmk K) → (Wlaw K) → (RC A K g) → (RQ A K) → (RP I J → RP A K) → (Fr (cset g) I A) → (∀ q j : Nat, gz q j → K q j = J q j) → (∀ b : Nat, A (g + 3) b = I (g + 3) b) → X Θ 0 0 n Ty A L F 32 [some (.ref (xb G + 0)), some (.ref (xb G + g)), some (.int (nI x)), some (.int v31), none, none] [] := by
      intro d
      induction d with
      | zero =>
        intro e A K hlt
        exact absurd hlt (Nat.not_lt_zero _)
      | succ d ih =>
        intro e A K hlt hJ he hMK hWK hRK hQK hPK hFK hGK hO
        have h0K : K 70 0 = J 70 0 := hGK 70 0 ⟨by decide, by decide, by decide, by decide, fun _ => Or.inl (by decide)⟩
        have hb8K : ix (K 70 0) ≤ 8 := by rw [h0K]; exact hb8
        have hxK : x < ix (K 70 0) := by rw [h0K]; exact hx
        refine x_aload_n h dX0_comesIn_32 rfl ?_
        refine x_getiN h g_X0_252 hg.l0 hg.1.2 rfl dX0_comesIn_33 ?_
        refine x_aload_n h dX0_comesIn_36 rfl ?_
        refine x_getiN h g_X0_211 hg.l0 hg.1.2 rfl dX0_comesIn_37 ?_
        refine x_icmp_lt h 91 dX0_comesIn_40 rfl (fun c40 => ?_) (fun c40 => ?_)
        · skip
          have hlt2 : K 72 18 < K 70 2 := by rw [← hRK.2.1.1, ← hRK.2.2.2.1]; exact c40
          have hz7 : m_payAll (nI x) 7 (m_none J) = K := by rw [hJ]; obtain ⟨e2, rfl⟩ : ∃ z : Nat, e = z + 1 := ⟨e - 1, by omega⟩; exact payAll_0 hlt2
          obtain ⟨z, hz5, ez⟩ := vp_in_of (third_5 hMK hlt2) (by decide)
          refine x_aload_n h dX0_comesIn_91 rfl ?_
          refine x_aload_n h dX0_comesIn_92 rfl ?_
          refine x_aload_n h dX0_comesIn_93 rfl ?_
          refine x_iload_n h dX0_comesIn_94 rfl ?_
          refine x_iload_n h dX0_comesIn_95 rfl ?_
          refine x_callVRi h (As := [.ref _, .int _, .int _]) (k0_buysFor l G n _ _ hC _ _ K g x v31 hg hg34.1 (hS.fr hFK ⟨by omega, by omega⟩ hGK) hRK hWK hb8K hxK) m_X0_268 (mlt hC.1 rfl) (hC.2.1 _ _ rfl) dX0_comesIn_96 ⟨by decide, by decide⟩ ⟨by decide, by decide⟩ rfl (Nat.le_of_ble_eq_true rfl) (fun v96 J96 hp96 => ?_)
          refine x_puti h p_X0_246 (mlt hC.1 rfl) (hC.2.1 _ _ rfl) rfl rfl rfl dX0_comesIn_99 (fun J99 eJ99 => ?_)
          refine x_aload_n h dX0_comesIn_102 rfl ?_
          refine x_iload_n h dX0_comesIn_103 rfl ?_
          refine x_aload_n h dX0_comesIn_104 rfl ?_
          refine x_geti h g_X0_246 (mlt hC.1 rfl) (hC.2.1 _ _ rfl) rfl dX0_comesIn_105 ?_
          refine x_eqi (v96) (by rw [eJ99]; exact up2_s _ _ _ _) ?_
          refine x_callVEv h (As := [.int _, .int _]) (k2_owe l G n _ _ hC _ _ g (nI x) v96 hg (by rw [eJ99, up2_i _ _ (by omega), hp96.2 g 5 (by omega), hRK.2.1.1, ez]; exact vp_in_nI hz5 (by decide))) m_X0_272 hg.l0 hg.1.2 dX0_comesIn_108 ⟨by decide, by decide⟩ ⟨by decide, by decide⟩ rfl (Nat.le_of_ble_eq_true rfl) ?_
          refine x_nmI (fun J108 eJ108 => ?_)
          refine x_aload_n h dX0_comesIn_111 rfl ?_
          refine x_dup h dX0_comesIn_112 rfl ?_
          refine x_getiN h g_X0_226 hg.l0 hg.1.2 rfl dX0_comesIn_113 ?_
          refine x_iconst h dX0_comesIn_116 (1) rfl ?_
          refine x_iadd h dX0_comesIn_117 ?_
          refine x_putiN h p_X0_226 hg.l0 hg.1.2 rfl rfl rfl dX0_comesIn_118 (fun J118 eJ118 => ?_)
          refine x_aload_n h dX0_comesIn_121 rfl ?_
          refine x_getrN h (j := g + 3) g_X0_220 hg.l0 hg.1.2 (by decide) hg.2.2.2.2.1 dX0_comesIn_122 ?_
          refine x_iload_n h dX0_comesIn_125 rfl ?_
          refine x_dup2_11 h dX0_comesIn_126 rfl rfl ?_
          refine x_iald h hg.l3 hg.2.1.2.2.1 (vp_in_nI (show x < 8 by omega) (by decide)) (x) (nI_clamp (by omega)) dX0_comesIn_127 ?_
          refine x_iconst h dX0_comesIn_128 (1) rfl ?_
          refine x_iadd h dX0_comesIn_129 ?_
          refine x_iast h hg.l3 hg.2.1.2.2.1 (vp_in_nI (show x < 8 by omega) (by decide)) (x) (nI_clamp (by omega)) dX0_comesIn_130 (fun J130 eJ130 => ?_)
          have hpur : m_none J 72 (ix (nI x)) = v31 := by rw [ix_n (by omega), none_i (by decide), ev31, h13, knone_o (by omega)]; exact (hR.1 x hx).1.symm
          have eK : J130 = k_book J96 g x v96 := by rw [eJ130, eJ118, eJ108, eJ99]; rfl
          have hR96 : RC J96 K g := hRK.mv (fun q k h1 h2 => hp96.2 q k (by omega)) rfl rfl rfl (fun _ _ => rfl) (fun _ => rfl) hb8K
          have hQ96 : RQ J96 K := by unfold RQ; rw [hp96.2 0 15 (by decide), hp96.2 0 16 (by decide), hp96.2 0 17 (by decide)]; exact hQK
          have hP96 : RP A K → RP J96 K := fun q s t hs ht => by rw [hp96.2 _ _ (by omega)]; exact q s t hs ht
          have hbk := book_R (v := v96) (K := (m_buys K (nI x) v31).2) hR96 hQ96 hb8K hxK ez hz5 hg34.1 (fun q j h1 h2 => buys_o h1 h2)
          exact x_vret h dX0_comesIn_131 rfl ⟨rfl, rfl, rfl, rfl, rfl, ⟨by rw [goes1_1 (by rw [none_out hx8]; exact ho), hz7, hpur, ← hp96.1, eK]; exact ⟨hbk.1, hbk.2.1, fun q => hbk.2.2 (hP96 (hPK q)), fun q k z => by rw [kbook_o z, hp96.2 q k (fun y => z (by unfold cset; omega))]; exact hFK q k z⟩, fun b hbx => by rw [eK, kbook_3 hg34.1 hbx, hp96.2 (g + 3) b (by omega)]; exact hO b⟩⟩
        · skip
          have hlt2 : ¬ K 72 18 < K 70 2 := by rw [← hRK.2.1.1, ← hRK.2.2.2.1]; exact c40
          have h0 := third_0 hMK hlt2
          obtain ⟨z, hz5, ez⟩ : ∃ z : Nat, z ≤ 4 ∧ K 72 18 = nI (z + 1) := open_s hMK h0
          obtain ⟨e2, rfl⟩ : ∃ z : Nat, e = z + 1 := ⟨e - 1, by omega⟩
          obtain ⟨d1, d2, w, hwK, hwe⟩ := hRK.2.1.2 0 (by rw [ez, ix_n (by omega)]; omega)
          have hw8 : w < 8 := by omega
          have hpp := pays_R hRK hQK hb8K ez hz5 hxK hg34.1
          refine x_aload_n h dX0_comesIn_43 rfl ?_
          refine x_getrN h (j := g + 4) g_X0_255 hg.l0 hg.1.2 (by decide) hg.2.2.2.2.2.1 dX0_comesIn_44 ?_
          refine x_iconst h dX0_comesIn_47 (0) rfl ?_
          refine x_iald h hg.l4 hg.2.1.2.2.2.1 (xk rfl) 0 rfl dX0_comesIn_48 ?_
          refine x_nmi (fun v49 ev49 => ?_)
          refine x_istore h dX0_comesIn_49 (by decide) [some (.ref (xb G + 0)), some (.ref (xb G + g)), some (.int (nI x)), some (.int v31), some (.int v49), none] rfl ?_
          refine x_aload_n h dX0_comesIn_51 rfl ?_
          refine x_getrN h (j := g + 5) g_X0_258 hg.l0 hg.1.2 (by decide) hg.2.2.2.2.2.2 dX0_comesIn_52 ?_
          refine x_iconst h dX0_comesIn_55 (0) rfl ?_
          refine x_iald h hg.l5 hg.2.1.2.2.2.2 (xk rfl) 0 rfl dX0_comesIn_56 ?_
          refine x_nmi (fun v57 ev57 => ?_)
          refine x_istore h dX0_comesIn_57 (by decide) [some (.ref (xb G + 0)), some (.ref (xb G + g)), some (.int (nI x)), some (.int v31), some (.int v49), some (.int v57)] rfl ?_
          have e49 : v49 = K 72 19 := ev49.trans d1
          have e57 : v57 = K 72 25 := ev57.trans d2
          have e49w : v49 = nI w := e49.trans hwe
          refine x_aload_n h dX0_comesIn_59 rfl ?_
          refine x_callVEv h (As := []) (k2_takeOldest l G n _ _ hC _ _ g hg z (by rw [hRK.2.1.1, ez]; exact nI_pred z) hz5) m_X0_261 hg.l0 hg.1.2 dX0_comesIn_60 ⟨by decide, by decide⟩ ⟨by decide, by decide⟩ rfl (Nat.le_of_ble_eq_true rfl) ?_
          refine x_nmI (fun J60 eJ60 => ?_)
          refine x_aload_n h dX0_comesIn_63 rfl ?_
          refine x_geti h g_X0_243 (mlt hC.1 rfl) (hC.2.1 _ _ rfl) rfl dX0_comesIn_64 ?_
          refine x_bipush h dX0_comesIn_67 (8) rfl ?_
          refine x_icmp_ne h 78 dX0_comesIn_69 rfl (fun c69 => ?_) (fun c69 => ?_)
          · skip
            have hkf : k_first (k_take A g) v49 = J60 := by rw [← eJ60]; unfold k_first; rw [if_neg c69]
            refine x_aload_n h dX0_comesIn_78 rfl ?_
            refine x_aload_n h dX0_comesIn_79 rfl ?_
            refine x_iload h dX0_comesIn_80 rfl ?_
            refine x_iload h dX0_comesIn_82 rfl ?_
            refine x_iload_n h dX0_comesIn_84 rfl ?_
            refine x_callVEv h (As := [.ref _, .int _, .int _, .int _]) (k0_pays l G n _ _ hC _ _ g v49 v57 (nI x) hg (by rw [e49w]; exact vp_in_nI hw8 (by decide)) hc) m_X0_264 (mlt hC.1 rfl) (hC.2.1 _ _ rfl) dX0_comesIn_85 ⟨by decide, by decide⟩ ⟨by decide, by decide⟩ rfl (Nat.le_of_ble_eq_true rfl) ?_
            refine x_nmI (fun J85 eJ85 => ?_)
            have eI85 : J85 = k_pays (k_first (k_take A g) v49) g v49 v57 (nI x) := by rw [hkf]; first | (rw [← eJ75]; exact eJ85) | exact eJ85
            rw [← e49, ← e57] at hpp
            refine x_goto h 32 dX0_comesIn_88 rfl ?_
            refine x_wk (lv := [some (.ref (xb G + 0)), some (.ref (xb G + g)), some (.int (nI x)), some (.int v31), none, none]) ?_ ⟨rfl, rfl, rfl, rfl, trivial⟩
            exact ih e2 J85 (m_pays K (nI x)) (by omega) (by rw [hJ]; exact payAll_1 hlt2) (by rw [pays_18 hMK hc h0]; exact ix_pred hMK.2.2.2.1 h0 he) (hMK.pays hc h0) hWK.pays (by rw [eI85]; exact hpp.1) (by rw [eI85]; exact hpp.2.1) (fun q => by rw [eI85]; exact hpp.2.2 (hPK q)) (by rw [eI85, e49w]; exact paysF hw8 (by omega) hFK) (fun q j h => (pays_o h).trans (hGK q j h)) (fun b => by rw [eI85, kpays_3 hg34.1 (by rw [e49w, ix_n (by omega)]; exact hw8)]; exact hO b)
          · skip
            have hkf : k_first (k_take A g) v49 = up2 J60 0 15 v49 := by rw [← eJ60]; unfold k_first; rw [if_pos c69]
            refine x_aload_n h dX0_comesIn_72 rfl ?_
            refine x_iload h dX0_comesIn_73 rfl ?_
            refine x_puti h p_X0_243 (mlt hC.1 rfl) (hC.2.1 _ _ rfl) rfl rfl rfl dX0_comesIn_75 (fun J75 eJ75 => ?_)
            refine x_aload_n h dX0_comesIn_78 rfl ?_
            refine x_aload_n h dX0_comesIn_79 rfl ?_
            refine x_iload h dX0_comesIn_80 rfl ?_
            refine x_iload h dX0_comesIn_82 rfl ?_
            refine x_iload_n h dX0_comesIn_84 rfl ?_
            refine x_callVEv h (As := [.ref _, .int _, .int _, .int _]) (k0_pays l G n _ _ hC _ _ g v49 v57 (nI x) hg (by rw [e49w]; exact vp_in_nI hw8 (by decide)) hc) m_X0_264 (mlt hC.1 rfl) (hC.2.1 _ _ rfl) dX0_comesIn_85 ⟨by decide, by decide⟩ ⟨by decide, by decide⟩ rfl (Nat.le_of_ble_eq_true rfl) ?_
            refine x_nmI (fun J85 eJ85 => ?_)
            have eI85 : J85 = k_pays (k_first (k_take A g) v49) g v49 v57 (nI x) := by rw [hkf]; first | (rw [← eJ75]; exact eJ85) | exact eJ85
            rw [← e49, ← e57] at hpp
            refine x_goto h 32 dX0_comesIn_88 rfl ?_
            refine x_wk (lv := [some (.ref (xb G + 0)), some (.ref (xb G + g)), some (.int (nI x)), some (.int v31), none, none]) ?_ ⟨rfl, rfl, rfl, rfl, trivial⟩
            exact ih e2 J85 (m_pays K (nI x)) (by omega) (by rw [hJ]; exact payAll_1 hlt2) (by rw [pays_18 hMK hc h0]; exact ix_pred hMK.2.2.2.1 h0 he) (hMK.pays hc h0) hWK.pays (by rw [eI85]; exact hpp.1) (by rw [eI85]; exact hpp.2.1) (fun q => by rw [eI85]; exact hpp.2.2 (hPK q)) (by rw [eI85, e49w]; exact paysF hw8 (by omega) hFK) (fun q j h => (pays_o h).trans (hGK q j h)) (fun b => by rw [eI85, kpays_3 hg34.1 (by rw [e49w, ix_n (by omega)]; exact hw8)]; exact hO b)
    exact lp32 8 7 J13 (m_none J) (by decide) rfl (ix_7 hM.none.2.2.2.1) hM.none hW.none (by rw [h13]; exact hnn.1) (by rw [h13]; exact hnn.2.1) (fun q => by rw [h13]; exact hnn.2.2 q) (by rw [h13]; exact fun q k z => knone_o (by unfold cset at z; omega)) (fun q j h => none_o h) (fun b => by rw [h13]; exact knone_3 hg34.1)
  · skip
    have ho : m_out J (nI x) = true := by by_cases z : m_out J (nI x) = true; exact z; rw [if_neg z] at c21; exact absurd c21 (by decide)
    exact x_vret h dX0_comesIn_24 rfl ⟨rfl, rfl, rfl, rfl, rfl, ⟨by rw [goes1_0 (by rw [none_out hx8]; exact ho), h13]; exact ⟨hnn.1, hnn.2.1, hnn.2.2, fun q k z => knone_o (by unfold cset at z; omega)⟩, fun b _ => by rw [h13]; exact knone_3 hg34.1⟩⟩
abbrev pur4 (n : Nat) (Ty : Nat → xs_T) (q k : Nat) : Prop := 103 ≤ q ∧ q < n ∧ Ty q = some (.inl 4) ∧ k = 0
set_option maxHeartbeats 4000000 in
theorem k0_comes (l : Launch) (G : xG_T) (n : Nat) (Ty : Nat → xs_T) (F : xF_T) (hC : WC n Ty F) (I : xI_T) (L : xL_T) (J : xI_T) (M : xL_T) (o : Int32) (hT : TOP n Ty I L F J M) : Cg l (265) 0 0 yX0_comes cX0_comes 4 (some .int) G idC [.ref (xb G + 0), .int o] n Ty I L F (pT n Ty (.int ((m_comes J o).1)) ((m_comes J o).2) (M)) := by
  refine Cg.intro (cls := RX0) (pad := 2) (lv := [some (.ref (xb G + 0)), some (.int o), none, none]) rfl (by decide) (Nat.le_of_ble_eq_true rfl) rfl (fun Θ h => ?_)
  have hQ := hT.Q
  have hI0 : I 0 1 = J 70 0 := hQ.1.1.1
  have hb := hQ.2.2.1.1
  obtain ⟨nb, hnb, enb, enx, hnI⟩ := hQ.nb
  have ekB : ∀ o : Int32, k_isB I o = m_isB J o := isB_k hI0
  have ⟨tC, tNU, tNO, tBY, tKL, tWW, tRB, tBU, tCH, tTA, tLE, tIM, tBO, tTR, tSH, tFR⟩ := hT
  refine x_aload_n h dX0_comes_0 rfl ?_
  refine x_iload_n h dX0_comes_1 rfl ?_
  refine x_callVEi h (As := [.int _]) (k0_isBuyer l G n _ _ hC _ _ _ ) m_X0_11 (mlt hC.1 rfl) (hC.2.1 _ _ rfl) dX0_comes_2 ⟨by decide, by decide⟩ ⟨by decide, by decide⟩ rfl (Nat.le_of_ble_eq_true rfl) ?_
  refine x_if_ne h 10 dX0_comes_5 rfl (fun c5 => ?_) (fun c5 => ?_)
  · skip
    have d5 : ¬ m_isB J o = 0 := by rw [← ekB]; exact c5
    obtain ⟨x, hx, hx8, rfl⟩ := isB_y hb d5
    have hz := comes_1 d5 hx8
    obtain ⟨J0, eJ0⟩ : ∃ J0 : xI_T, J0 = up2 J 70 43 0 := ⟨_, rfl⟩
    rw [← eJ0] at hz
    have hM0 : Wmk J0 := by rw [eJ0]; exact tWW.1.mv (up2_k _ _ (by decide)) (up2_k _ _ (by decide)) fun j _ _ => up2_i _ _ (by decide)
    have hW0 : Wlaw J0 := by rw [eJ0]; exact tWW.2.1.mv (up2_k _ _ (by decide)) fun q j _ _ => up2_i _ _ (by omega)
    have hx0 : vp_in (nI x) 8 := vp_in_nI hx8 (by decide)
    obtain ⟨K, hK⟩ : ∃ K : xI_T, K = m_goes1 J0 (nI x) := ⟨_, rfl⟩
    rw [← hK] at hz
    have hKg : ∀ q j : Nat, gz q j → ¬ (q = 70 ∧ j = 43) → K q j = J q j := fun q j y1 y2 => by rw [hK, goes1_o y1, eJ0, up2_n _ _ y2]
    have hK8 : K 72 8 = J 72 8 := by rw [hK, goes1_8 hM0 hx0, eJ0, up2_i _ _ (by decide)]
    have g70 : ∀ j : Nat, j < 40 → K 70 j = J 70 j := fun j hj => hKg 70 j ⟨by decide, by decide, by decide, by decide, fun _ => Or.inl hj⟩ (by omega)
    have gq : ∀ q j : Nat, q ≠ 70 ∧ q ≠ 72 ∧ q ≠ 82 ∧ q ≠ 83 ∧ q ≠ 95 → K q j = J q j := fun q j y => hKg q j (gz_q y) (fun z => y.1 z.1)
    refine x_aload_n h dX0_comes_10 rfl ?_
    refine x_callVRr h (As := []) (k0_layNow6 l G n _ _ hC _ _ J hQ.1 hQ.2.2.1) m_X0_291 (mlt hC.1 rfl) (hC.2.1 _ _ rfl) dX0_comes_11 ⟨by decide, by decide⟩ ⟨by decide, by decide⟩ rfl (Nat.le_of_ble_eq_true rfl) (fun J11 hp11 => ?_)
    have hR11 : RC J11 J0 34 := hp11.1.1 J0 (by rw [eJ0]; exact ⟨⟨up2_k _ _ (by decide), up2_k _ _ (by decide), up2_s _ _ _ _⟩, fun k _ => up2_i _ _ (by decide), fun k _ => up2_i _ _ (by decide)⟩)
    have hS11 : KS n Ty J11 F J0 := (hQ.fr (hp11.2.sub fun _ _ z => (lset_2 z).1) (fun _ _ _ => rfl)).2.1.tr4 Fr.rf (fun q k y1 y2 => by rw [eJ0, up2_n _ _ (fun z => by have := y1.2.2.2.2 z.1; omega)])
    refine x_astore_n h dX0_comes_14 rfl (by decide) [some (.ref (xb G + 0)), some (.int (nI x)), some (.ref (xb G + 34)), none] rfl ?_
    refine x_aload_n h dX0_comes_15 rfl ?_
    refine x_aload_n h dX0_comes_16 rfl ?_
    refine x_iload_n h dX0_comes_17 rfl ?_
    refine x_callVRv h (As := [.ref _, .int _]) (k0_comesIn2 l G n _ _ hC _ _ J0 34 x (hC.mk (by unfold isMk; omega)) (by decide) hS11 hR11 hM0 hW0 (by rw [eJ0, up2_k _ _ (by decide)]; exact hx)) m_X0_284 (mlt hC.1 rfl) (hC.2.1 _ _ rfl) dX0_comes_18 ⟨by decide, by decide⟩ ⟨by decide, by decide⟩ rfl (Nat.le_of_ble_eq_true rfl) (fun J18 hp18 => ?_)
    rw [← hK] at hp18
    obtain ⟨hp18, hO18⟩ := hp18
    have hf18 : Fr q2set I J18 := (hp11.2.sub fun _ _ z => lset_2 z).tr (hp18.2.2.2.sub fun _ _ z => cset_2 z)
    have h01K : J18 0 1 = nI nb := by rw [hf18 0 1 (by unfold q2set qset bset lset cset; omega)]; exact hnI
    refine x_iconst h dX0_comes_21 (0) rfl ?_
    refine x_istore_n h dX0_comes_22 rfl (by decide) [some (.ref (xb G + 0)), some (.int (nI x)), some (.ref (xb G + 34)), some (.int 0)] rfl ?_
    have lp23 : ∀ (d : Nat) (k : Nat) (A : xI_T), nb - k < d → (k ≤ nb) → (∀ b q : Nat, b < k → F 1 b = some q → A q 0 = K 72 b) → (Fr (pur4 n Ty) J18 A) → X Θ 0 0 n Ty A L F 23 [some (.ref (xb G + 0)), some (.int (nI x)), some (.ref (xb G + 34)), some (.int (nI k))] [] := by
      intro d
      induction d with
      | zero =>
        intro k A hlt
        exact absurd hlt (Nat.not_lt_zero _)
      | succ d ih =>
        intro k A hlt hk hA hf
        have f0 : ∀ q j : Nat, q < 103 → A q j = J18 q j := fun q j z => hf q j (fun y => by have := y.1; omega)
        have h01 : A 0 1 = nI nb := (f0 0 1 (by decide)).trans h01K
        refine x_iload_n h dX0_comes_23 rfl ?_
        refine x_aload_n h dX0_comes_24 rfl ?_
        refine x_geti h g_X0_1 (mlt hC.1 rfl) (hC.2.1 _ _ rfl) rfl dX0_comes_25 ?_
        refine x_eqi (nI nb) h01 ?_
        refine x_icmp_ge h 52 dX0_comes_28 rfl (fun c28 => ?_) (fun c28 => ?_)
        · skip
          have hkn : k = nb := by have := (nI_leI (a := nb) (b := k) (by omega) (by omega)).mp c28; omega
          refine x_aload_n h dX0_comes_52 rfl ?_
          refine x_getr h (j := 6) g_X0_170 (mlt hC.1 rfl) (hC.2.1 _ _ rfl) (by decide) (hC.2.2 _ _ _ rfl) dX0_comes_53 ?_
          refine x_aload_n h dX0_comes_56 rfl ?_
          refine x_callVEv h (As := [.ref _]) (k2_likeThat l G n _ _ hC _ _ 6 34 (hC.mk (by unfold isMk; omega)) (hC.mk (by unfold isMk; omega))) m_X0_216 (mlt hC.1 rfl) (hC.2.1 _ _ rfl) dX0_comes_57 ⟨by decide, by decide⟩ ⟨by decide, by decide⟩ rfl (Nat.le_of_ble_eq_true rfl) ?_
          refine x_nmI (fun J57 eJ57 => ?_)
          have hMK : Wmk K := by rw [hK]; exact hM0.goes1 hx0
          have hRA : RC A K 34 := hp18.1.mv31 hMK (fun q j y1 y2 => f0 q j (by omega)) rfl rfl rfl (fun _ _ => rfl) (fun _ _ => rfl)
          have hR57 : RC J57 K 6 := by rw [eJ57]; exact like_R hRA hMK (by omega)
          have h57 : ∀ q j : Nat, ¬ (6 ≤ q ∧ q ≤ 11) → J57 q j = A q j := fun q j z => by rw [eJ57]; exact klike_o (by omega)
          have hB57 : KB n Ty J57 F K := hQ.2.1.1.gm (Nat.le_refl _) (fun _ _ => rfl) (fun q j y1 y2 y3 => by rw [h57 q j (by omega), hf q j (fun z => by have := z.2.2.2; omega), hf18 q j (by unfold q2set qset bset lset cset; omega)]) (fun _ _ => rfl) (by rw [h57 0 1 (by omega), f0 0 1 (by decide), hf18 0 1 (by unfold q2set qset bset lset cset; omega)]) (by rw [h57 0 3 (by omega), f0 0 3 (by decide), hf18 0 3 (by unfold q2set qset bset lset cset; omega)]) (g70 0 (by decide)) (g70 3 (by decide)) (fun j _ => gq 71 j (by decide))
          refine x_aload_n h dX0_comes_60 rfl ?_
          refine x_dup h dX0_comes_61 rfl ?_
          refine x_geti h g_X0_385 (mlt hC.1 rfl) (hC.2.1 _ _ rfl) rfl dX0_comes_62 ?_
          refine x_aload_n h dX0_comes_65 rfl ?_
          refine x_iload_n h dX0_comes_66 rfl ?_
          refine x_callVEi h (As := [.int _]) (k0_counts l G n _ _ hC _ _ K x hB57 (by rw [g70 0 (by decide), enx]; omega) (by rw [g70 0 (by decide)]; exact hx)) m_X0_249 (mlt hC.1 rfl) (hC.2.1 _ _ rfl) dX0_comes_67 ⟨by decide, by decide⟩ ⟨by decide, by decide⟩ rfl (Nat.le_of_ble_eq_true rfl) ?_
          have eo : m_out K (nI x) = m_out J (nI x) := by unfold m_out; rw [gq 71 _ (by decide), g70 3 (by decide)]
          rw [eo]
          refine x_if_eq h 77 dX0_comes_70 rfl (fun c70 => ?_) (fun c70 => ?_)
          · skip
            have eo2 : (if m_out J (nI x) = true then (0 : Int32) else 1) = 0 := c70
            refine x_iconst h dX0_comes_77 (0) rfl ?_
            refine x_iadd h dX0_comes_78 ?_
            refine x_puti h p_X0_385 (mlt hC.1 rfl) (hC.2.1 _ _ rfl) rfl rfl rfl dX0_comes_79 (fun J79 eJ79 => ?_)
            refine x_aload_n h dX0_comes_82 rfl ?_
            refine x_dup h dX0_comes_83 rfl ?_
            refine x_geti h g_X0_388 (mlt hC.1 rfl) (hC.2.1 _ _ rfl) rfl dX0_comes_84 ?_
            refine x_aload_n h dX0_comes_87 rfl ?_
            refine x_geti h g_X0_240 (mlt hC.1 rfl) (hC.2.1 _ _ rfl) rfl dX0_comes_88 ?_
            refine x_iadd h dX0_comes_91 ?_
            refine x_puti h p_X0_388 (mlt hC.1 rfl) (hC.2.1 _ _ rfl) rfl rfl rfl dX0_comes_92 (fun J92 eJ92 => ?_)
            refine x_aload_n h dX0_comes_95 rfl ?_
            refine x_dup h dX0_comes_96 rfl ?_
            refine x_geti h g_X0_391 (mlt hC.1 rfl) (hC.2.1 _ _ rfl) rfl dX0_comes_97 ?_
            refine x_aload_n h dX0_comes_100 rfl ?_
            refine x_getiN h g_X0_213 (mlt hC.1 rfl) (hC.2.1 _ _ rfl) rfl dX0_comes_101 ?_
            refine x_iadd h dX0_comes_104 ?_
            refine x_puti h p_X0_391 (mlt hC.1 rfl) (hC.2.1 _ _ rfl) rfl rfl rfl dX0_comes_105 (fun J105 eJ105 => ?_)
            refine x_aload_n h dX0_comes_108 rfl ?_
            refine x_geti h g_X0_240 (mlt hC.1 rfl) (hC.2.1 _ _ rfl) rfl dX0_comes_109 ?_
            have b0 : ∀ j : Nat, 26 ≤ j → j ≤ 30 → J57 0 j = I 0 j := fun j h1 h2 => by rw [h57 0 j (by omega), f0 0 j (by decide), hf18 0 j (by unfold q2set qset bset lset cset; omega)]
            have b16 : J57 0 16 = K 70 41 := by rw [h57 0 16 (by omega), f0 0 16 (by decide)]; exact hp18.2.1.2.1
            have b349 : J57 34 9 = K 70 43 := by rw [h57 34 9 (by omega)]; exact hRA.2.2.2.2.2
            have e105 : J105 = up2 (up2 (up2 J57 0 26 (J 84 0 + (if m_out J (nI x) = true then 0 else 1))) 0 27 (J 84 1 + K 70 41)) 0 28 (J 84 2 + K 70 43) := by rw [eo2, eJ105, eJ92, eJ79, up2_k _ _ (show (28 : Nat) ≠ 27 by decide), up2_k _ _ (show (28 : Nat) ≠ 26 by decide), up2_i _ _ (show (34 : Nat) ≠ 0 by decide), up2_i _ _ (show (34 : Nat) ≠ 0 by decide), up2_k _ _ (show (27 : Nat) ≠ 26 by decide), up2_k _ _ (show (16 : Nat) ≠ 26 by decide), b0 26 (by decide) (by decide), b0 27 (by decide) (by decide), b0 28 (by decide) (by decide), b16, b349, tLE.1, tLE.2.1, tLE.2.2.1]
            have h105 : ∀ q j : Nat, ¬ (q = 0 ∧ 26 ≤ j ∧ j ≤ 28) → J105 q j = J57 q j := fun q j z => by rw [e105, up2_n _ _ (by omega), up2_n _ _ (by omega), up2_n _ _ (by omega)]
            have hI : ∀ q k : Nat, ¬ ((q = 0 ∧ ((26 ≤ k ∧ k ≤ 28) ∨ (15 ≤ k ∧ k ≤ 25))) ∨ (5 ≤ q ∧ q ≤ 11) ∨ (14 ≤ q ∧ q ≤ 22) ∨ q = 24 ∨ (34 ≤ q ∧ q < 70) ∨ 103 ≤ q) → J105 q k = I q k := fun q k z => by rw [h105 q k (by omega), h57 q k (by omega), hf q k (fun y => by have := y.1; omega), hf18 q k (by unfold q2set qset bset lset cset; omega)]
            have id : ∀ q k : Nat, 103 ≤ q → q < n → ¬ (Ty q = some (.inl 4) ∧ k = 0) → J105 q k = I q k := fun q k z1 z2 z => by rw [h105 q k (by omega), h57 q k (by omega), hf q k (fun y => z ⟨y.2.2.1, y.2.2.2⟩), hf18 q k (by unfold q2set qset bset lset cset; omega)]
            have hJ2 : ∀ q k : Nat, q ≠ 84 → (m_comes J (nI x)).2 q k = K q k := fun q k z => by rw [hz]; show up2 _ 84 2 _ q k = _; rw [up2_i _ _ z, up2_i _ _ z, up2_i _ _ z]
            have hJ : ∀ q k : Nat, ¬ (q = 72 ∨ q = 82 ∨ q = 83 ∨ q = 95 ∨ (q = 70 ∧ 40 ≤ k ∧ k ≤ 43) ∨ (q = 84 ∧ k < 3)) → (m_comes J (nI x)).2 q k = J q k := fun q k z => by by_cases y : q = 84; rw [hz, y]; show up2 _ 84 2 _ 84 k = _; rw [up2_k _ _ (by omega), up2_k _ _ (by omega), up2_k _ _ (by omega), gq 84 k (by decide)]; rw [hJ2 q k y, hKg q k ⟨by omega, by omega, by omega, by omega, fun _ => by omega⟩ (by omega)]
            have hz2 : (m_comes J (nI x)).2 = up2 (up2 (up2 K 84 0 (J 84 0 + (if m_out J (nI x) = true then 0 else 1))) 84 1 (J 84 1 + K 70 41)) 84 2 (J 84 2 + K 70 43) := by rw [hz]
            have hJ84 : (m_comes J (nI x)).2 84 0 = J 84 0 + (if m_out J (nI x) = true then 0 else 1) ∧ (m_comes J (nI x)).2 84 1 = J 84 1 + K 70 41 ∧ (m_comes J (nI x)).2 84 2 = J 84 2 + K 70 43 := by rw [hz2]; exact ⟨by rw [up2_k _ _ (by decide), up2_k _ _ (by decide), up2_s], by rw [up2_k _ _ (by decide), up2_s], by rw [up2_s]⟩
            have hR105 : RC J105 (m_comes J (nI x)).2 6 := hR57.mv31 hMK (fun q j y1 y2 => h105 q j (by omega)) (hJ2 _ _ (by decide)) (hJ2 _ _ (by decide)) (hJ2 _ _ (by decide)) (fun k _ => hJ2 _ _ (by decide)) (fun k _ => hJ2 _ _ (by decide))
            have dI := dynI.b (Ty := Ty) (I := I) (I' := J105) id
            have dA := dynA.b (Ty := Ty) (I := I) (I' := J105) (L := L) id
            exact x_iret h dX0_comes_112 rfl ⟨congrArg (fun z => some (Value.int z)) ((by rw [h105 0 16 (by omega), b16, hz])), grw.rf, ⟨tC, ⟨(hI 0 1 (by omega)).trans (tNU.1.trans (hJ 70 0 (by omega)).symm), (hI 0 2 (by omega)).trans (tNU.2.1.trans (hJ 70 2 (by omega)).symm), by rw [hI 0 4 (by omega), hJ2 72 8 (by decide), hK8]; exact tNU.2.2.1, (hI 0 3 (by omega)).trans (tNU.2.2.2.1.trans (hJ 70 3 (by omega)).symm), by rw [hJ 70 3 (by omega)]; exact tNU.2.2.2.2⟩, NOW.rc hR105, tBY.pur (fun q k z1 z2 z3 z4 => id q k z1 z2 (fun e => absurd e.2 (by omega))) (fun b q hb9 hq z1 z2 z3 => by rw [h105 q 0 (by omega), h57 q 0 (by omega), hA b q (by omega) hq, hJ2 72 b (by decide)]) (hJ 70 0 (by omega)) (fun k => hJ 71 k (by omega)), tKL.w grw.rf dI dynF.rf rfl (fun q k _ => hJ q k (by omega)), ⟨hMK.mv (hJ2 _ _ (by decide)) (hJ2 _ _ (by decide)) fun j _ _ => hJ2 _ _ (by decide), tWW.2.1.mv (hJ 70 8 (by omega)) fun q j _ _ => hJ q j (by omega), by rw [hJ2 72 8 (by decide), hK8]; exact tWW.2.2⟩, tRB.w (fun k => hI 23 k (by omega)) (fun k => hJ 101 k (by omega)), tBU.w (fun _ _ => rfl) (hJ 70 0 (by omega)), tCH.w grw.rf dI ⟨hI 0 6 (by omega), hI 0 7 (by omega)⟩ (fun _ => rfl) (fun q k _ => hJ q k (by omega)), tTA.w (fun q k _ => hI q k (by omega)) (fun q k _ => hJ q k (by omega)), ⟨by rw [hJ84.1, e105, up2_k _ _ (by decide), up2_k _ _ (by decide), up2_s], by rw [hJ84.2.1, e105, up2_k _ _ (by decide), up2_s], by rw [hJ84.2.2, e105, up2_s], (hI 0 29 (by omega)).trans (tLE.2.2.2.1.trans (hJ 84 3 (by omega)).symm), (hI 0 30 (by omega)).trans (tLE.2.2.2.2.trans (hJ 84 4 (by omega)).symm)⟩, tIM.w (fun q k _ => hI q k (by omega)) (fun q k _ => hJ q k (by omega)) (by rw [hJ 70 0 (by omega)]; exact Nat.le_refl _), tBO.w grw.rf dI dynF.rf (hI 0 42 (by omega)) (fun _ => rfl) (fun q k _ => hJ q k (by omega)), tTR.w (fun q k _ => hI q k (by omega)) (fun q k _ => hJ q k (by omega)), tSH.w grw.rf dA dynF.rf ⟨fun _ => rfl, fun _ _ z => z⟩ (fun q k _ => hJ q k (by omega)) (fun _ => rfl) (by rw [hJ 70 31 (by omega)]; exact Nat.le_refl _), fun b h1 h2 => by rw [hJ 70 0 (by omega)] at h1; have hbx : b ≠ x := (by omega); have y := tFR b h1 h2; refine ⟨?_, by rw [hJ 71 _ (by omega)]; exact y.2⟩; rw [h105 9 b (by omega), eJ57, show (9 : Nat) = 6 + 3 from rfl, klike_a (Or.inr (by decide)) (Or.inl ⟨Or.inr (Or.inr rfl), rfl⟩) h2, f0 _ b (by decide), hO18 b hbx, hp11.1.2.2 b h2, y.1, hJ2 72 _ (by decide), hK, goes1_j hM0 hx8 (by omega) (by omega) (by omega) (by omega), eJ0, up2_i _ _ (by decide)]⟩⟩
          · skip
            have eo2 : (if m_out J (nI x) = true then (0 : Int32) else 1) = 1 := by by_cases z : m_out J (nI x) = true; rw [if_pos z] at c70; exact absurd rfl c70; rw [if_neg z]
            refine x_iconst h dX0_comes_73 (1) rfl ?_
            refine x_goto h 78 dX0_comes_74 rfl ?_
            refine x_iadd h dX0_comes_78 ?_
            refine x_puti h p_X0_385 (mlt hC.1 rfl) (hC.2.1 _ _ rfl) rfl rfl rfl dX0_comes_79 (fun J79 eJ79 => ?_)
            refine x_aload_n h dX0_comes_82 rfl ?_
            refine x_dup h dX0_comes_83 rfl ?_
            refine x_geti h g_X0_388 (mlt hC.1 rfl) (hC.2.1 _ _ rfl) rfl dX0_comes_84 ?_
            refine x_aload_n h dX0_comes_87 rfl ?_
            refine x_geti h g_X0_240 (mlt hC.1 rfl) (hC.2.1 _ _ rfl) rfl dX0_comes_88 ?_
            refine x_iadd h dX0_comes_91 ?_
            refine x_puti h p_X0_388 (mlt hC.1 rfl) (hC.2.1 _ _ rfl) rfl rfl rfl dX0_comes_92 (fun J92 eJ92 => ?_)
            refine x_aload_n h dX0_comes_95 rfl ?_
            refine x_dup h dX0_comes_96 rfl ?_
            refine x_geti h g_X0_391 (mlt hC.1 rfl) (hC.2.1 _ _ rfl) rfl dX0_comes_97 ?_
            refine x_aload_n h dX0_comes_100 rfl ?_
            refine x_getiN h g_X0_213 (mlt hC.1 rfl) (hC.2.1 _ _ rfl) rfl dX0_comes_101 ?_
            refine x_iadd h dX0_comes_104 ?_
            refine x_puti h p_X0_391 (mlt hC.1 rfl) (hC.2.1 _ _ rfl) rfl rfl rfl dX0_comes_105 (fun J105 eJ105 => ?_)
            refine x_aload_n h dX0_comes_108 rfl ?_
            refine x_geti h g_X0_240 (mlt hC.1 rfl) (hC.2.1 _ _ rfl) rfl dX0_comes_109 ?_
            have b0 : ∀ j : Nat, 26 ≤ j → j ≤ 30 → J57 0 j = I 0 j := fun j h1 h2 => by rw [h57 0 j (by omega), f0 0 j (by decide), hf18 0 j (by unfold q2set qset bset lset cset; omega)]
            have b16 : J57 0 16 = K 70 41 := by rw [h57 0 16 (by omega), f0 0 16 (by decide)]; exact hp18.2.1.2.1
            have b349 : J57 34 9 = K 70 43 := by rw [h57 34 9 (by omega)]; exact hRA.2.2.2.2.2
            have e105 : J105 = up2 (up2 (up2 J57 0 26 (J 84 0 + (if m_out J (nI x) = true then 0 else 1))) 0 27 (J 84 1 + K 70 41)) 0 28 (J 84 2 + K 70 43) := by rw [eo2, eJ105, eJ92, eJ79, up2_k _ _ (show (28 : Nat) ≠ 27 by decide), up2_k _ _ (show (28 : Nat) ≠ 26 by decide), up2_i _ _ (show (34 : Nat) ≠ 0 by decide), up2_i _ _ (show (34 : Nat) ≠ 0 by decide), up2_k _ _ (show (27 : Nat) ≠ 26 by decide), up2_k _ _ (show (16 : Nat) ≠ 26 by decide), b0 26 (by decide) (by decide), b0 27 (by decide) (by decide), b0 28 (by decide) (by decide), b16, b349, tLE.1, tLE.2.1, tLE.2.2.1]
            have h105 : ∀ q j : Nat, ¬ (q = 0 ∧ 26 ≤ j ∧ j ≤ 28) → J105 q j = J57 q j := fun q j z => by rw [e105, up2_n _ _ (by omega), up2_n _ _ (by omega), up2_n _ _ (by omega)]
            have hI : ∀ q k : Nat, ¬ ((q = 0 ∧ ((26 ≤ k ∧ k ≤ 28) ∨ (15 ≤ k ∧ k ≤ 25))) ∨ (5 ≤ q ∧ q ≤ 11) ∨ (14 ≤ q ∧ q ≤ 22) ∨ q = 24 ∨ (34 ≤ q ∧ q < 70) ∨ 103 ≤ q) → J105 q k = I q k := fun q k z => by rw [h105 q k (by omega), h57 q k (by omega), hf q k (fun y => by have := y.1; omega), hf18 q k (by unfold q2set qset bset lset cset; omega)]
            have id : ∀ q k : Nat, 103 ≤ q → q < n → ¬ (Ty q = some (.inl 4) ∧ k = 0) → J105 q k = I q k := fun q k z1 z2 z => by rw [h105 q k (by omega), h57 q k (by omega), hf q k (fun y => z ⟨y.2.2.1, y.2.2.2⟩), hf18 q k (by unfold q2set qset bset lset cset; omega)]
            have hJ2 : ∀ q k : Nat, q ≠ 84 → (m_comes J (nI x)).2 q k = K q k := fun q k z => by rw [hz]; show up2 _ 84 2 _ q k = _; rw [up2_i _ _ z, up2_i _ _ z, up2_i _ _ z]
            have hJ : ∀ q k : Nat, ¬ (q = 72 ∨ q = 82 ∨ q = 83 ∨ q = 95 ∨ (q = 70 ∧ 40 ≤ k ∧ k ≤ 43) ∨ (q = 84 ∧ k < 3)) → (m_comes J (nI x)).2 q k = J q k := fun q k z => by by_cases y : q = 84; rw [hz, y]; show up2 _ 84 2 _ 84 k = _; rw [up2_k _ _ (by omega), up2_k _ _ (by omega), up2_k _ _ (by omega), gq 84 k (by decide)]; rw [hJ2 q k y, hKg q k ⟨by omega, by omega, by omega, by omega, fun _ => by omega⟩ (by omega)]
            have hz2 : (m_comes J (nI x)).2 = up2 (up2 (up2 K 84 0 (J 84 0 + (if m_out J (nI x) = true then 0 else 1))) 84 1 (J 84 1 + K 70 41)) 84 2 (J 84 2 + K 70 43) := by rw [hz]
            have hJ84 : (m_comes J (nI x)).2 84 0 = J 84 0 + (if m_out J (nI x) = true then 0 else 1) ∧ (m_comes J (nI x)).2 84 1 = J 84 1 + K 70 41 ∧ (m_comes J (nI x)).2 84 2 = J 84 2 + K 70 43 := by rw [hz2]; exact ⟨by rw [up2_k _ _ (by decide), up2_k _ _ (by decide), up2_s], by rw [up2_k _ _ (by decide), up2_s], by rw [up2_s]⟩
            have hR105 : RC J105 (m_comes J (nI x)).2 6 := hR57.mv31 hMK (fun q j y1 y2 => h105 q j (by omega)) (hJ2 _ _ (by decide)) (hJ2 _ _ (by decide)) (hJ2 _ _ (by decide)) (fun k _ => hJ2 _ _ (by decide)) (fun k _ => hJ2 _ _ (by decide))
            have dI := dynI.b (Ty := Ty) (I := I) (I' := J105) id
            have dA := dynA.b (Ty := Ty) (I := I) (I' := J105) (L := L) id
            exact x_iret h dX0_comes_112 rfl ⟨congrArg (fun z => some (Value.int z)) ((by rw [h105 0 16 (by omega), b16, hz])), grw.rf, ⟨tC, ⟨(hI 0 1 (by omega)).trans (tNU.1.trans (hJ 70 0 (by omega)).symm), (hI 0 2 (by omega)).trans (tNU.2.1.trans (hJ 70 2 (by omega)).symm), by rw [hI 0 4 (by omega), hJ2 72 8 (by decide), hK8]; exact tNU.2.2.1, (hI 0 3 (by omega)).trans (tNU.2.2.2.1.trans (hJ 70 3 (by omega)).symm), by rw [hJ 70 3 (by omega)]; exact tNU.2.2.2.2⟩, NOW.rc hR105, tBY.pur (fun q k z1 z2 z3 z4 => id q k z1 z2 (fun e => absurd e.2 (by omega))) (fun b q hb9 hq z1 z2 z3 => by rw [h105 q 0 (by omega), h57 q 0 (by omega), hA b q (by omega) hq, hJ2 72 b (by decide)]) (hJ 70 0 (by omega)) (fun k => hJ 71 k (by omega)), tKL.w grw.rf dI dynF.rf rfl (fun q k _ => hJ q k (by omega)), ⟨hMK.mv (hJ2 _ _ (by decide)) (hJ2 _ _ (by decide)) fun j _ _ => hJ2 _ _ (by decide), tWW.2.1.mv (hJ 70 8 (by omega)) fun q j _ _ => hJ q j (by omega), by rw [hJ2 72 8 (by decide), hK8]; exact tWW.2.2⟩, tRB.w (fun k => hI 23 k (by omega)) (fun k => hJ 101 k (by omega)), tBU.w (fun _ _ => rfl) (hJ 70 0 (by omega)), tCH.w grw.rf dI ⟨hI 0 6 (by omega), hI 0 7 (by omega)⟩ (fun _ => rfl) (fun q k _ => hJ q k (by omega)), tTA.w (fun q k _ => hI q k (by omega)) (fun q k _ => hJ q k (by omega)), ⟨by rw [hJ84.1, e105, up2_k _ _ (by decide), up2_k _ _ (by decide), up2_s], by rw [hJ84.2.1, e105, up2_k _ _ (by decide), up2_s], by rw [hJ84.2.2, e105, up2_s], (hI 0 29 (by omega)).trans (tLE.2.2.2.1.trans (hJ 84 3 (by omega)).symm), (hI 0 30 (by omega)).trans (tLE.2.2.2.2.trans (hJ 84 4 (by omega)).symm)⟩, tIM.w (fun q k _ => hI q k (by omega)) (fun q k _ => hJ q k (by omega)) (by rw [hJ 70 0 (by omega)]; exact Nat.le_refl _), tBO.w grw.rf dI dynF.rf (hI 0 42 (by omega)) (fun _ => rfl) (fun q k _ => hJ q k (by omega)), tTR.w (fun q k _ => hI q k (by omega)) (fun q k _ => hJ q k (by omega)), tSH.w grw.rf dA dynF.rf ⟨fun _ => rfl, fun _ _ z => z⟩ (fun q k _ => hJ q k (by omega)) (fun _ => rfl) (by rw [hJ 70 31 (by omega)]; exact Nat.le_refl _), fun b h1 h2 => by rw [hJ 70 0 (by omega)] at h1; have hbx : b ≠ x := (by omega); have y := tFR b h1 h2; refine ⟨?_, by rw [hJ 71 _ (by omega)]; exact y.2⟩; rw [h105 9 b (by omega), eJ57, show (9 : Nat) = 6 + 3 from rfl, klike_a (Or.inr (by decide)) (Or.inl ⟨Or.inr (Or.inr rfl), rfl⟩) h2, f0 _ b (by decide), hO18 b hbx, hp11.1.2.2 b h2, y.1, hJ2 72 _ (by decide), hK, goes1_j hM0 hx8 (by omega) (by omega) (by omega) (by omega), eJ0, up2_i _ _ (by decide)]⟩⟩
        · skip
          have hkn : k < nb := Nat.lt_of_not_le fun y => c28 ((nI_leI (by omega) (by omega)).mpr y)
          obtain ⟨q8, hq8, ⟨g8, g8n⟩, g8T, -⟩ := tBY k (by omega)
          have hpk : A 35 k = K 72 k := by rw [f0 35 k (by decide)]; exact (hp18.1.1 k (by rw [g70 0 (by decide)]; omega)).1
          refine x_aload_n h dX0_comes_31 rfl ?_
          refine x_getr h (j := 1) g_X0_15 (mlt hC.1 rfl) (hC.2.1 _ _ rfl) (by decide) (hC.2.2 _ _ _ rfl) dX0_comes_32 ?_
          refine x_iload_n h dX0_comes_35 rfl ?_
          refine x_aaldr h (q := q8) (mlt hC.1 rfl) (hC.2.1 _ _ rfl) (by decide) rfl rfl (vp_in_nI (show k < 8 by omega) (by decide)) (k) (nI_clamp (by omega)) hq8 dX0_comes_36 ?_
          refine x_aload_n h dX0_comes_37 rfl ?_
          refine x_getrN h (j := 35) g_X0_207 (mlt hC.1 rfl) (hC.2.1 _ _ rfl) (by decide) (hC.2.2 _ _ _ rfl) dX0_comes_38 ?_
          refine x_iload_n h dX0_comes_41 rfl ?_
          refine x_iald h (mlt hC.1 rfl) (hC.2.1 _ _ rfl) (vp_in_nI (show k < 8 by omega) (by decide)) (k) (nI_clamp (by omega)) dX0_comes_42 ?_
          refine x_putiN h p_X0_42 g8n g8T rfl rfl rfl dX0_comes_43 (fun J43 eJ43 => ?_)
          refine x_iinc h dX0_comes_46 (by decide) rfl (nI (k + 1)) (nI_1 k) [some (.ref (xb G + 0)), some (.int (nI x)), some (.ref (xb G + 34)), some (.int (nI (k + 1)))] rfl ?_
          refine x_goto h 23 dX0_comes_49 rfl ?_
          exact ih (k + 1) J43 (by omega) (by omega) (fun b q hb9 hq9 => by rw [eJ43]; by_cases e : b = k; rw [e] at hq9 ⊢; rw [show q = q8 from Option.some.inj (hq9.symm.trans hq8), up2_s]; exact hpk; have nq : q ≠ q8 := fun e2 => e (tBU b k (by omega) (by omega) (by rw [hq9, hq8, e2])); rw [up2_i _ _ nq]; exact hA b q (by omega) hq9) (by rw [eJ43]; exact hf.up ⟨g8, g8n, g8T, rfl⟩)
    exact lp23 (nb + 1) 0 J18 (by omega) (by omega) (fun b q h => absurd h (Nat.not_lt_zero _)) Fr.rf
  · skip
    have hz : m_comes J o = (-1, J) := by unfold m_comes; rw [if_pos (by rw [← ekB]; exact c5)]
    refine x_iconst h dX0_comes_8 (-1) rfl ?_
    exact x_iret h dX0_comes_9 rfl (by rw [hz]; exact ⟨rfl, grw.rf, hT⟩)
