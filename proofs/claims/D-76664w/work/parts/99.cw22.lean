/-! WALKS OF THE COMPONENT: draws -/

set_option maxHeartbeats 4000000 in
theorem k0_drawn0 (l : Launch) (G : xG_T) (n : Nat) (Ty : Nat → xs_T) (F : xF_T) (hC : WC n Ty F) (I : xI_T) (L : xL_T) (J : xI_T) (sd nm o : Int32) (hQ : QS n Ty I F J) (hD : vp_in (J 72 8) 100) (hn0 : ix (J 70 0) = 0) : CR l (270) yX0_drawn cX0_drawn 10 (some .int) G n Ty F [.ref (xb G + 0), .int sd, .int nm, .int o] I L (aR (fun r I2 => r = (m_drawn J sd nm o).1 ∧ Fr q2set I I2)) := by
  refine Cg.intro (cls := RX0) (pad := 6) (lv := [some (.ref (xb G + 0)), some (.int sd), some (.int nm), some (.int o), none, none, none, none, none, none]) rfl (by decide) (Nat.le_of_ble_eq_true rfl) rfl (fun Θ h => ?_)
  have hI0 : I 0 1 = J 70 0 := hQ.1.1.1
  have hb := hQ.2.2.1.1
  obtain ⟨nb, hnb, enb, enx, hnI⟩ := hQ.nb
  have ekB : ∀ o : Int32, k_isB I o = m_isB J o := isB_k hI0
  rw [enx] at hn0
  have hI00 : I 0 1 = 0 := by rw [hnI, hn0]; rfl
  refine x_iload_n h dX0_drawn_0 rfl ?_
  refine x_bipush h dX0_drawn_1 (100) rfl ?_
  refine x_idiv h dX0_drawn_3 (by decide) ?_
  refine x_bipush h dX0_drawn_4 (100) rfl ?_
  refine x_irem h dX0_drawn_6 (by decide) ?_
  refine x_nmi (fun v7 ev7 => ?_)
  refine x_istore h dX0_drawn_7 (by decide) [some (.ref (xb G + 0)), some (.int sd), some (.int nm), some (.int o), some (.int v7), none, none, none, none, none] rfl ?_
  refine x_iload_n h dX0_drawn_9 rfl ?_
  refine x_if_lt h 61 dX0_drawn_10 rfl (fun c10 => ?_) (fun c10 => ?_)
  · skip
    have hz : (m_drawn J sd nm o).1 = -1 := by unfold m_drawn; rw [if_pos c10]
    refine x_iconst h dX0_drawn_61 (-1) rfl ?_
    exact x_iret h dX0_drawn_62 rfl ⟨rfl, rfl, rfl, rfl, _, rfl, hz.symm, Fr.rf⟩
  · skip
    refine x_iload_n h dX0_drawn_13 rfl ?_
    refine x_sipush h dX0_drawn_14 (10000) rfl ?_
    refine x_idiv h dX0_drawn_17 (by decide) ?_
    refine x_iconst h dX0_drawn_18 (1) rfl ?_
    refine x_bipush h dX0_drawn_19 (30) rfl ?_
    refine x_callSEi h (As := [.int _, .int _, .int _]) (k0_in l G n _ _ hC _ _ _ _ _ ) m_X0_7 dX0_drawn_21 ⟨by decide, by decide⟩ ⟨by decide, by decide⟩ rfl (Nat.le_of_ble_eq_true rfl) ?_
    refine x_if_eq h 61 dX0_drawn_24 rfl (fun c24 => ?_) (fun c24 => ?_)
    · skip
      have hz : (m_drawn J sd nm o).1 = -1 := by unfold m_drawn; rw [if_neg c10, if_pos c24]
      refine x_iconst h dX0_drawn_61 (-1) rfl ?_
      exact x_iret h dX0_drawn_62 rfl ⟨rfl, rfl, rfl, rfl, _, rfl, hz.symm, Fr.rf⟩
    · skip
      refine x_iload h dX0_drawn_27 rfl ?_
      refine x_iconst h dX0_drawn_29 (1) rfl ?_
      refine x_bipush h dX0_drawn_30 (60) rfl ?_
      refine x_callSEi h (As := [.int _, .int _, .int _]) (k0_in l G n _ _ hC _ _ _ _ _ ) m_X0_7 dX0_drawn_32 ⟨by decide, by decide⟩ ⟨by decide, by decide⟩ rfl (Nat.le_of_ble_eq_true rfl) ?_
      refine x_if_eq h 61 dX0_drawn_35 rfl (fun c35 => ?_) (fun c35 => ?_)
      · skip
        have d35 : inR (irm (nm / 100) 100) 1 60 = 0 := by rw [show irm (nm / 100) 100 = v7 from ev7.symm]; exact c35
        have hz : (m_drawn J sd nm o).1 = -1 := by unfold m_drawn; rw [if_neg c10, if_neg c24, if_pos d35]
        refine x_iconst h dX0_drawn_61 (-1) rfl ?_
        exact x_iret h dX0_drawn_62 rfl ⟨rfl, rfl, rfl, rfl, _, rfl, hz.symm, Fr.rf⟩
      · skip
        have d35 : ¬ inR (irm (nm / 100) 100) 1 60 = 0 := by rw [show irm (nm / 100) 100 = v7 from ev7.symm]; exact c35
        refine x_iload_n h dX0_drawn_38 rfl ?_
        refine x_bipush h dX0_drawn_39 (100) rfl ?_
        refine x_irem h dX0_drawn_41 (by decide) ?_
        refine x_bipush h dX0_drawn_42 (12) rfl ?_
        refine x_icmp_gt h 61 dX0_drawn_44 rfl (fun c44 => ?_) (fun c44 => ?_)
        · skip
          have d44 : 12 < irm nm 100 := c44
          have hz : (m_drawn J sd nm o).1 = -1 := by unfold m_drawn; rw [if_neg c10, if_neg c24, if_neg d35, if_pos d44]
          refine x_iconst h dX0_drawn_61 (-1) rfl ?_
          exact x_iret h dX0_drawn_62 rfl ⟨rfl, rfl, rfl, rfl, _, rfl, hz.symm, Fr.rf⟩
        · skip
          have d44 : ¬ 12 < irm nm 100 := c44
          refine x_iload_n h dX0_drawn_47 rfl ?_
          refine x_iconst h dX0_drawn_48 (-1) rfl ?_
          refine x_aload_n h dX0_drawn_49 rfl ?_
          refine x_geti h g_X0_1 (mlt hC.1 rfl) (hC.2.1 _ _ rfl) rfl dX0_drawn_50 ?_
          refine x_iconst h dX0_drawn_53 (1) rfl ?_
          refine x_isub h dX0_drawn_54 ?_
          refine x_callSEi h (As := [.int _, .int _, .int _]) (k0_in l G n _ _ hC _ _ _ _ _ ) m_X0_7 dX0_drawn_55 ⟨by decide, by decide⟩ ⟨by decide, by decide⟩ rfl (Nat.le_of_ble_eq_true rfl) ?_
          refine x_if_ne h 63 dX0_drawn_58 rfl (fun c58 => ?_) (fun c58 => ?_)
          · skip
            have d58 : ¬ (¬ o = -1 ∧ m_isB J o = 0) := fun y => c58 (by rw [hI0]; exact (in_m1 hb).mpr y)
            have hm := drawn_B (sd := sd) c10 c24 d35 d44 d58
            obtain ⟨Y, hY1, hY30, hYe⟩ := inR_nat 1 30 c24 rfl rfl (by decide)
            obtain ⟨m9, hm1, hm60, em⟩ := inR_nat 1 60 c35 rfl rfl (by decide)
            have hme : irm (nm / 100) 100 = nI m9 := by rw [← em]; exact ev7.symm
            subst em
            have hom : o = -1 := Classical.byContradiction fun q => by obtain ⟨y, hy, _⟩ := isB_y hb (fun q2 => d58 ⟨q, q2⟩); omega
            refine x_iload_n h dX0_drawn_63 rfl ?_
            refine x_istore h dX0_drawn_64 (by decide) [some (.ref (xb G + 0)), some (.int sd), some (.int nm), some (.int o), some (.int (nI m9)), some (.int sd), none, none, none, none] rfl ?_
            refine x_iconst h dX0_drawn_66 (0) rfl ?_
            refine x_istore h dX0_drawn_67 (by decide) [some (.ref (xb G + 0)), some (.int sd), some (.int nm), some (.int o), some (.int (nI m9)), some (.int sd), some (.int 0), none, none, none] rfl ?_
            refine x_iconst h dX0_drawn_69 (0) rfl ?_
            refine x_istore h dX0_drawn_70 (by decide) [some (.ref (xb G + 0)), some (.int sd), some (.int nm), some (.int o), some (.int (nI m9)), some (.int sd), some (.int 0), some (.int 0), none, none] rfl ?_
            have lp72 : ∀ (d : Nat) (k : Nat) (zz : Int32) (A : xI_T), Y - k < d → (k ≤ Y) → (Fr q2set I A) → X Θ 0 0 n Ty A L F 72 [some (.ref (xb G + 0)), some (.int sd), some (.int nm), some (.int o), some (.int (nI m9)), some (.int zz), some (.int 0), some (.int (nI k)), none, none] [] := by
              intro d
              induction d with
              | zero =>
                intro k zz A hlt
                exact absurd hlt (Nat.not_lt_zero _)
              | succ d ih =>
                intro k zz A hlt hk hf
                refine x_iload h dX0_drawn_72 rfl ?_
                refine x_iload_n h dX0_drawn_74 rfl ?_
                refine x_sipush h dX0_drawn_75 (10000) rfl ?_
                refine x_idiv h dX0_drawn_78 (by decide) ?_
                refine x_eqi (nI Y) hYe ?_
                refine x_icmp_ge h 189 dX0_drawn_79 rfl (fun c79 => ?_) (fun c79 => ?_)
                · skip
                  have hkY : k = Y := by have := (nI_leI (a := Y) (b := k) (by omega) (by omega)).mp c79; omega
                  refine x_iload h dX0_drawn_189 rfl ?_
                  exact x_iret h dX0_drawn_191 rfl ⟨rfl, rfl, rfl, rfl, _, rfl, by rw [hm]; unfold m_drawnB; rw [if_pos hom, drZ_0 (by rw [enb, hn0]; decide)]; show (0 : Int32) = m_begins J 70 43; exact begins_43.symm, hf⟩
                · skip
                  have hkY : k < Y := Nat.lt_of_not_le fun y => c79 ((nI_leI (by omega) (by omega)).mpr y)
                  refine x_aload_n h dX0_drawn_82 rfl ?_
                  refine x_callVRr h (As := []) (k0_layNow l G n _ _ hC _ _ J (hQ.fr hf.q (fun _ _ _ => rfl)).1 hQ.2.2.1) m_X0_291 (mlt hC.1 rfl) (hC.2.1 _ _ rfl) dX0_drawn_83 ⟨by decide, by decide⟩ ⟨by decide, by decide⟩ rfl (Nat.le_of_ble_eq_true rfl) (fun J83 hp83 => ?_)
                  have h3490 : J83 34 9 = 0 := by rw [(hp83.1 (up2 J 70 43 0) ⟨⟨up2_k _ _ (by decide), up2_k _ _ (by decide), up2_s _ _ _ _⟩, fun k _ => up2_i _ _ (by decide), fun k _ => up2_i _ _ (by decide)⟩).2.2.2.2.2, up2_s]
                  refine x_astore h dX0_drawn_86 (by decide) [some (.ref (xb G + 0)), some (.int sd), some (.int nm), some (.int o), some (.int (nI m9)), some (.int zz), some (.int 0), some (.int (nI k)), some (.ref (xb G + 34)), none] rfl ?_
                  refine x_iconst h dX0_drawn_88 (0) rfl ?_
                  refine x_istore h dX0_drawn_89 (by decide) [some (.ref (xb G + 0)), some (.int sd), some (.int nm), some (.int o), some (.int (nI m9)), some (.int zz), some (.int 0), some (.int (nI k)), some (.ref (xb G + 34)), some (.int 0)] rfl ?_
                  have ih0 := ih
                  have hlt0 := hlt
                  have lp91 : ∀ (d : Nat) (j : Nat) (zz2 : Int32) (B : xI_T), m9 - j < d → (j ≤ m9) → (Fr q2set I B) → (B 34 9 = 0) → X Θ 0 0 n Ty B L F 91 [some (.ref (xb G + 0)), some (.int sd), some (.int nm), some (.int o), some (.int (nI m9)), some (.int zz2), some (.int 0), some (.int (nI k)), some (.ref (xb G + 34)), some (.int (nI j))] [] := by
                    intro d
                    induction d with
                    | zero =>
                      intro j zz2 B hlt
                      exact absurd hlt (Nat.not_lt_zero _)
                    | succ d ih =>
                      intro j zz2 B hlt hj hfB h349
                      refine x_iload h dX0_drawn_91 rfl ?_
                      refine x_iload h dX0_drawn_93 rfl ?_
                      refine x_icmp_ge h 159 dX0_drawn_95 rfl (fun c95 => ?_) (fun c95 => ?_)
                      · skip
                        have hjm : j = m9 := by have := (nI_leI (a := m9) (b := j) (by omega) (by omega)).mp c95; omega
                        refine x_iload h dX0_drawn_159 rfl ?_
                        refine x_iload_n h dX0_drawn_161 rfl ?_
                        refine x_if_ge h 173 dX0_drawn_162 rfl (fun c162 => ?_) (fun c162 => ?_)
                        · skip
                          exact absurd c162 (by rw [hom]; decide)
                        · skip
                          refine x_aload h dX0_drawn_165 rfl ?_
                          refine x_getiN h g_X0_213 (mlt hC.1 rfl) (hC.2.1 _ _ rfl) rfl dX0_drawn_167 ?_
                          refine x_goto h 180 dX0_drawn_170 rfl ?_
                          refine x_iadd h dX0_drawn_180 ?_
                          refine x_eqi (0) (by rw [h349]; rfl) ?_
                          refine x_istore h dX0_drawn_181 (by decide) [some (.ref (xb G + 0)), some (.int sd), some (.int nm), some (.int o), some (.int (nI m9)), some (.int zz2), some (.int (0)), some (.int (nI k)), some (.ref (xb G + 34)), some (.int (nI j))] rfl ?_
                          refine x_iinc h dX0_drawn_183 (by decide) rfl (nI (k + 1)) (nI_1 k) [some (.ref (xb G + 0)), some (.int sd), some (.int nm), some (.int o), some (.int (nI m9)), some (.int zz2), some (.int (0)), some (.int (nI (k + 1))), some (.ref (xb G + 34)), some (.int (nI j))] rfl ?_
                          refine x_goto h 72 dX0_drawn_186 rfl ?_
                          refine x_wk (lv := [some (.ref (xb G + 0)), some (.int sd), some (.int nm), some (.int o), some (.int (nI m9)), some (.int zz2), some (.int (0)), some (.int (nI (k + 1))), none, none]) ?_ ⟨rfl, rfl, rfl, rfl, rfl, rfl, rfl, rfl, trivial⟩
                          exact ih0 (k + 1) (zz2) B (by omega) (by omega) hfB
                      · skip
                        have hjm : j < m9 := Nat.lt_of_not_le fun y => c95 ((nI_leI (by omega) (by omega)).mpr y)
                        refine x_iload h dX0_drawn_98 rfl ?_
                        refine x_ldcw h dX0_drawn_100 q1070 ?_
                        refine x_imul h dX0_drawn_103 ?_
                        refine x_sipush h dX0_drawn_104 (12345) rfl ?_
                        refine x_iadd h dX0_drawn_107 ?_
                        refine x_nmi (fun v108 ev108 => ?_)
                        refine x_istore h dX0_drawn_108 (by decide) [some (.ref (xb G + 0)), some (.int sd), some (.int nm), some (.int o), some (.int (nI m9)), some (.int v108), some (.int 0), some (.int (nI k)), some (.ref (xb G + 34)), some (.int (nI j))] rfl ?_
                        refine x_iload h dX0_drawn_110 rfl ?_
                        refine x_bipush h dX0_drawn_112 (16) rfl ?_
                        refine x_iushr h dX0_drawn_114 ?_
                        refine x_bipush h dX0_drawn_115 (12) rfl ?_
                        refine x_irem h dX0_drawn_117 (by decide) ?_
                        refine x_iload_n h dX0_drawn_118 rfl ?_
                        refine x_bipush h dX0_drawn_119 (100) rfl ?_
                        refine x_irem h dX0_drawn_121 (by decide) ?_
                        refine x_icmp_ge h 130 dX0_drawn_122 rfl (fun c122 => ?_) (fun c122 => ?_)
                        · skip
                          refine x_aload_n h dX0_drawn_130 rfl ?_
                          refine x_geti h g_X0_1 (mlt hC.1 rfl) (hC.2.1 _ _ rfl) rfl dX0_drawn_131 ?_
                          refine x_eqi (0) (by first | (rw [hfB127 0 1 (by unfold q2set qset bset lset cset; omega)]; exact hI00) | (rw [hfB 0 1 (by unfold q2set qset bset lset cset; omega)]; exact hI00)) ?_
                          refine x_if_le h 153 dX0_drawn_134 rfl (fun c134 => ?_) (fun c134 => ?_)
                          · skip
                            refine x_iinc h dX0_drawn_153 (by decide) rfl (nI (j + 1)) (nI_1 j) [some (.ref (xb G + 0)), some (.int sd), some (.int nm), some (.int o), some (.int (nI m9)), some (.int v108), some (.int 0), some (.int (nI k)), some (.ref (xb G + 34)), some (.int (nI (j + 1)))] rfl ?_
                            refine x_goto h 91 dX0_drawn_156 rfl ?_
                            exact ih (j + 1) (v108) B (by omega) (by omega) (by first | exact hfB127 | exact hfB) (by first | exact h349127 | exact h349)
                          · exact absurd c134 (by decide)
                        · skip
                          refine x_aload h dX0_drawn_125 rfl ?_
                          refine x_callVEv h (As := []) (k2_evening l G n _ _ hC _ _ 34 (hC.mk (by unfold isMk; omega))) m_X0_305 (mlt hC.1 rfl) (hC.2.1 _ _ rfl) dX0_drawn_127 ⟨by decide, by decide⟩ ⟨by decide, by decide⟩ rfl (Nat.le_of_ble_eq_true rfl) ?_
                          refine x_nmI (fun J127 eJ127 => ?_)
                          have hfB127 : Fr q2set I J127 := hfB.tr (by rw [eJ127]; exact fun q k z => keve_o (by unfold q2set qset bset lset cset at z; omega) (by unfold q2set qset bset lset cset at z; omega))
                          have h349127 : J127 34 9 = 0 := by rw [eJ127, keve_o (by omega) (by omega)]; exact h349
                          refine x_aload_n h dX0_drawn_130 rfl ?_
                          refine x_geti h g_X0_1 (mlt hC.1 rfl) (hC.2.1 _ _ rfl) rfl dX0_drawn_131 ?_
                          refine x_eqi (0) (by first | (rw [hfB127 0 1 (by unfold q2set qset bset lset cset; omega)]; exact hI00) | (rw [hfB 0 1 (by unfold q2set qset bset lset cset; omega)]; exact hI00)) ?_
                          refine x_if_le h 153 dX0_drawn_134 rfl (fun c134 => ?_) (fun c134 => ?_)
                          · skip
                            refine x_iinc h dX0_drawn_153 (by decide) rfl (nI (j + 1)) (nI_1 j) [some (.ref (xb G + 0)), some (.int sd), some (.int nm), some (.int o), some (.int (nI m9)), some (.int v108), some (.int 0), some (.int (nI k)), some (.ref (xb G + 34)), some (.int (nI (j + 1)))] rfl ?_
                            refine x_goto h 91 dX0_drawn_156 rfl ?_
                            exact ih (j + 1) (v108) J127 (by omega) (by omega) (by first | exact hfB127 | exact hfB) (by first | exact h349127 | exact h349)
                          · exact absurd c134 (by decide)
                  exact lp91 (m9 + 1) 0 zz J83 (by omega) (by omega) (hf.tr (hp83.2.sub fun _ _ z => lset_2 z)) h3490
            exact lp72 (Y + 1) 0 sd I (by omega) (by omega) Fr.rf
          · skip
            have d58 : ¬ o = -1 ∧ m_isB J o = 0 := (in_m1 hb).mp (by rw [← hI0]; exact c58)
            have hz : (m_drawn J sd nm o).1 = -1 := by unfold m_drawn; rw [if_neg c10, if_neg c24, if_neg d35, if_neg d44, if_pos d58]
            refine x_iconst h dX0_drawn_61 (-1) rfl ?_
            exact x_iret h dX0_drawn_62 rfl ⟨rfl, rfl, rfl, rfl, _, rfl, hz.symm, Fr.rf⟩
set_option maxHeartbeats 4000000 in
theorem k0_drawn1 (l : Launch) (G : xG_T) (n : Nat) (Ty : Nat → xs_T) (F : xF_T) (hC : WC n Ty F) (I : xI_T) (L : xL_T) (J : xI_T) (sd nm o : Int32) (hQ : QS n Ty I F J) (hD : vp_in (J 72 8) 100) (hn1 : 0 < ix (J 70 0)) : CR l (270) yX0_drawn cX0_drawn 10 (some .int) G n Ty F [.ref (xb G + 0), .int sd, .int nm, .int o] I L (aR (fun r I2 => r = (m_drawn J sd nm o).1 ∧ Fr q2set I I2)) := by
  refine Cg.intro (cls := RX0) (pad := 6) (lv := [some (.ref (xb G + 0)), some (.int sd), some (.int nm), some (.int o), none, none, none, none, none, none]) rfl (by decide) (Nat.le_of_ble_eq_true rfl) rfl (fun Θ h => ?_)
  have hI0 : I 0 1 = J 70 0 := hQ.1.1.1
  have hb := hQ.2.2.1.1
  obtain ⟨nb, hnb, enb, enx, hnI⟩ := hQ.nb
  have ekB : ∀ o : Int32, k_isB I o = m_isB J o := isB_k hI0
  rw [enx] at hn1
  refine x_iload_n h dX0_drawn_0 rfl ?_
  refine x_bipush h dX0_drawn_1 (100) rfl ?_
  refine x_idiv h dX0_drawn_3 (by decide) ?_
  refine x_bipush h dX0_drawn_4 (100) rfl ?_
  refine x_irem h dX0_drawn_6 (by decide) ?_
  refine x_nmi (fun v7 ev7 => ?_)
  refine x_istore h dX0_drawn_7 (by decide) [some (.ref (xb G + 0)), some (.int sd), some (.int nm), some (.int o), some (.int v7), none, none, none, none, none] rfl ?_
  refine x_iload_n h dX0_drawn_9 rfl ?_
  refine x_if_lt h 61 dX0_drawn_10 rfl (fun c10 => ?_) (fun c10 => ?_)
  · skip
    have hz : (m_drawn J sd nm o).1 = -1 := by unfold m_drawn; rw [if_pos c10]
    refine x_iconst h dX0_drawn_61 (-1) rfl ?_
    exact x_iret h dX0_drawn_62 rfl ⟨rfl, rfl, rfl, rfl, _, rfl, hz.symm, Fr.rf⟩
  · skip
    refine x_iload_n h dX0_drawn_13 rfl ?_
    refine x_sipush h dX0_drawn_14 (10000) rfl ?_
    refine x_idiv h dX0_drawn_17 (by decide) ?_
    refine x_iconst h dX0_drawn_18 (1) rfl ?_
    refine x_bipush h dX0_drawn_19 (30) rfl ?_
    refine x_callSEi h (As := [.int _, .int _, .int _]) (k0_in l G n _ _ hC _ _ _ _ _ ) m_X0_7 dX0_drawn_21 ⟨by decide, by decide⟩ ⟨by decide, by decide⟩ rfl (Nat.le_of_ble_eq_true rfl) ?_
    refine x_if_eq h 61 dX0_drawn_24 rfl (fun c24 => ?_) (fun c24 => ?_)
    · skip
      have hz : (m_drawn J sd nm o).1 = -1 := by unfold m_drawn; rw [if_neg c10, if_pos c24]
      refine x_iconst h dX0_drawn_61 (-1) rfl ?_
      exact x_iret h dX0_drawn_62 rfl ⟨rfl, rfl, rfl, rfl, _, rfl, hz.symm, Fr.rf⟩
    · skip
      refine x_iload h dX0_drawn_27 rfl ?_
      refine x_iconst h dX0_drawn_29 (1) rfl ?_
      refine x_bipush h dX0_drawn_30 (60) rfl ?_
      refine x_callSEi h (As := [.int _, .int _, .int _]) (k0_in l G n _ _ hC _ _ _ _ _ ) m_X0_7 dX0_drawn_32 ⟨by decide, by decide⟩ ⟨by decide, by decide⟩ rfl (Nat.le_of_ble_eq_true rfl) ?_
      refine x_if_eq h 61 dX0_drawn_35 rfl (fun c35 => ?_) (fun c35 => ?_)
      · skip
        have d35 : inR (irm (nm / 100) 100) 1 60 = 0 := by rw [show irm (nm / 100) 100 = v7 from ev7.symm]; exact c35
        have hz : (m_drawn J sd nm o).1 = -1 := by unfold m_drawn; rw [if_neg c10, if_neg c24, if_pos d35]
        refine x_iconst h dX0_drawn_61 (-1) rfl ?_
        exact x_iret h dX0_drawn_62 rfl ⟨rfl, rfl, rfl, rfl, _, rfl, hz.symm, Fr.rf⟩
      · skip
        have d35 : ¬ inR (irm (nm / 100) 100) 1 60 = 0 := by rw [show irm (nm / 100) 100 = v7 from ev7.symm]; exact c35
        refine x_iload_n h dX0_drawn_38 rfl ?_
        refine x_bipush h dX0_drawn_39 (100) rfl ?_
        refine x_irem h dX0_drawn_41 (by decide) ?_
        refine x_bipush h dX0_drawn_42 (12) rfl ?_
        refine x_icmp_gt h 61 dX0_drawn_44 rfl (fun c44 => ?_) (fun c44 => ?_)
        · skip
          have d44 : 12 < irm nm 100 := c44
          have hz : (m_drawn J sd nm o).1 = -1 := by unfold m_drawn; rw [if_neg c10, if_neg c24, if_neg d35, if_pos d44]
          refine x_iconst h dX0_drawn_61 (-1) rfl ?_
          exact x_iret h dX0_drawn_62 rfl ⟨rfl, rfl, rfl, rfl, _, rfl, hz.symm, Fr.rf⟩
        · skip
          have d44 : ¬ 12 < irm nm 100 := c44
          refine x_iload_n h dX0_drawn_47 rfl ?_
          refine x_iconst h dX0_drawn_48 (-1) rfl ?_
          refine x_aload_n h dX0_drawn_49 rfl ?_
          refine x_geti h g_X0_1 (mlt hC.1 rfl) (hC.2.1 _ _ rfl) rfl dX0_drawn_50 ?_
          refine x_iconst h dX0_drawn_53 (1) rfl ?_
          refine x_isub h dX0_drawn_54 ?_
          refine x_callSEi h (As := [.int _, .int _, .int _]) (k0_in l G n _ _ hC _ _ _ _ _ ) m_X0_7 dX0_drawn_55 ⟨by decide, by decide⟩ ⟨by decide, by decide⟩ rfl (Nat.le_of_ble_eq_true rfl) ?_
          refine x_if_ne h 63 dX0_drawn_58 rfl (fun c58 => ?_) (fun c58 => ?_)
          · skip
            have d58 : ¬ (¬ o = -1 ∧ m_isB J o = 0) := fun y => c58 (by rw [hI0]; exact (in_m1 hb).mpr y)
            have hm := drawn_B (sd := sd) c10 c24 d35 d44 d58
            obtain ⟨Y, hY1, hY30, hYe⟩ := inR_nat 1 30 c24 rfl rfl (by decide)
            obtain ⟨m9, hm1, hm60, em⟩ := inR_nat 1 60 c35 rfl rfl (by decide)
            have hme : irm (nm / 100) 100 = nI m9 := by rw [← em]; exact ev7.symm
            subst em
            refine x_iload_n h dX0_drawn_63 rfl ?_
            refine x_istore h dX0_drawn_64 (by decide) [some (.ref (xb G + 0)), some (.int sd), some (.int nm), some (.int o), some (.int (nI m9)), some (.int sd), none, none, none, none] rfl ?_
            refine x_iconst h dX0_drawn_66 (0) rfl ?_
            refine x_istore h dX0_drawn_67 (by decide) [some (.ref (xb G + 0)), some (.int sd), some (.int nm), some (.int o), some (.int (nI m9)), some (.int sd), some (.int 0), none, none, none] rfl ?_
            refine x_iconst h dX0_drawn_69 (0) rfl ?_
            refine x_istore h dX0_drawn_70 (by decide) [some (.ref (xb G + 0)), some (.int sd), some (.int nm), some (.int o), some (.int (nI m9)), some (.int sd), some (.int 0), some (.int 0), none, none] rfl ?_
            have lp72 : ∀ (d : Nat) (k : Nat) (y : (Int32 × Int32) × xI_T) (sm : Int32) (A : xI_T), Y - k < d → (k ≤ Y) → (y = m_drGo2 (irm nm 100) o m9 k ((sd, 0), m_begins J)) → (sm = if o = -1 then y.2 70 43 else y.1.2) → (drQ J y.2 ∧ ∀ j : Nat, j < 31 → y.2 72 j = J 72 j) → (Fr q2set I A) → X Θ 0 0 n Ty A L F 72 [some (.ref (xb G + 0)), some (.int sd), some (.int nm), some (.int o), some (.int (nI m9)), some (.int y.1.1), some (.int sm), some (.int (nI k)), none, none] [] := by
              intro d
              induction d with
              | zero =>
                intro k y sm A hlt
                exact absurd hlt (Nat.not_lt_zero _)
              | succ d ih =>
                intro k y sm A hlt hk hy hsm hDy hf
                refine x_iload h dX0_drawn_72 rfl ?_
                refine x_iload_n h dX0_drawn_74 rfl ?_
                refine x_sipush h dX0_drawn_75 (10000) rfl ?_
                refine x_idiv h dX0_drawn_78 (by decide) ?_
                refine x_eqi (nI Y) hYe ?_
                refine x_icmp_ge h 189 dX0_drawn_79 rfl (fun c79 => ?_) (fun c79 => ?_)
                · skip
                  have hkY : k = Y := by have := (nI_leI (a := Y) (b := k) (by omega) (by omega)).mp c79; omega
                  refine x_iload h dX0_drawn_189 rfl ?_
                  exact x_iret h dX0_drawn_191 rfl ⟨rfl, rfl, rfl, rfl, _, rfl, by rw [hm]; unfold m_drawnB; rw [drZ_1 enb hn1 hnb hme (by omega) hYe (by omega), ← hkY, ← hy]; exact hsm, hf⟩
                · skip
                  have hkY : k < Y := Nat.lt_of_not_le fun y => c79 ((nI_leI (by omega) (by omega)).mpr y)
                  refine x_aload_n h dX0_drawn_82 rfl ?_
                  refine x_callVRr h (As := []) (k0_layNow l G n _ _ hC _ _ J (hQ.fr hf.q (fun _ _ _ => rfl)).1 hQ.2.2.1) m_X0_291 (mlt hC.1 rfl) (hC.2.1 _ _ rfl) dX0_drawn_83 ⟨by decide, by decide⟩ ⟨by decide, by decide⟩ rfl (Nat.le_of_ble_eq_true rfl) (fun J83 hp83 => ?_)
                  refine x_astore h dX0_drawn_86 (by decide) [some (.ref (xb G + 0)), some (.int sd), some (.int nm), some (.int o), some (.int (nI m9)), some (.int y.1.1), some (.int sm), some (.int (nI k)), some (.ref (xb G + 34)), none] rfl ?_
                  refine x_iconst h dX0_drawn_88 (0) rfl ?_
                  refine x_istore h dX0_drawn_89 (by decide) [some (.ref (xb G + 0)), some (.int sd), some (.int nm), some (.int o), some (.int (nI m9)), some (.int y.1.1), some (.int sm), some (.int (nI k)), some (.ref (xb G + 34)), some (.int 0)] rfl ?_
                  have ih0 := ih
                  have hlt0 := hlt
                  have lp91 : ∀ (d : Nat) (j : Nat) (x : Int32 × xI_T) (B : xI_T), m9 - j < d → (j ≤ m9) → (x = m_drGo1 (irm nm 100) j (y.1.1, y.2)) → (drQ J x.2) → (RC B (sh (0 - y.2 70 43) x.2) 34) → (vp_in (x.2 72 8) 100) → (Fr q2set I B) → X Θ 0 0 n Ty B L F 91 [some (.ref (xb G + 0)), some (.int sd), some (.int nm), some (.int o), some (.int (nI m9)), some (.int x.1), some (.int sm), some (.int (nI k)), some (.ref (xb G + 34)), some (.int (nI j))] [] := by
                    intro d
                    induction d with
                    | zero =>
                      intro j x B hlt
                      exact absurd hlt (Nat.not_lt_zero _)
                    | succ d ih =>
                      intro j x B hlt hj hx hDx hRx hdx hfB
                      refine x_iload h dX0_drawn_91 rfl ?_
                      refine x_iload h dX0_drawn_93 rfl ?_
                      refine x_icmp_ge h 159 dX0_drawn_95 rfl (fun c95 => ?_) (fun c95 => ?_)
                      · skip
                        have hjm : j = m9 := by have := (nI_leI (a := m9) (b := j) (by omega) (by omega)).mp c95; omega
                        have hxm : x = m_drGo1 (irm nm 100) m9 (y.1.1, y.2) := by rw [← hjm]; exact hx
                        have h43 : B 34 9 = x.2 70 43 + (0 - y.2 70 43) := by rw [hRx.2.2.2.2.2]; exact up2_s _ _ _ _
                        refine x_iload h dX0_drawn_159 rfl ?_
                        refine x_iload_n h dX0_drawn_161 rfl ?_
                        refine x_if_ge h 173 dX0_drawn_162 rfl (fun c162 => ?_) (fun c162 => ?_)
                        · skip
                          have dm1 : ¬ o = -1 := fun q => by rw [q] at c162; exact absurd c162 (by decide)
                          obtain ⟨u, hu, hu8, eu⟩ := isB_y hb (fun q => d58 ⟨dm1, q⟩)
                          have hy2 : ((x.1, if o = -1 then y.1.2 else y.1.2 + x.2 72 (ix o)), m_lays x.2 93 0) = m_drGo2 (irm nm 100) o m9 (k + 1) ((sd, 0), m_begins J) := by rw [if_neg dm1]; exact (drGo2_b hy hxm dm1).symm
                          refine x_aload h dX0_drawn_173 rfl ?_
                          refine x_getrN h (j := 35) g_X0_207 (mlt hC.1 rfl) (hC.2.1 _ _ rfl) (by decide) (hC.2.2 _ _ _ rfl) dX0_drawn_175 ?_
                          refine x_iload_n h dX0_drawn_178 rfl ?_
                          refine x_iald h (mlt hC.1 rfl) (hC.2.1 _ _ rfl) (by rw [eu]; exact vp_in_nI hu8 (by decide)) _ rfl dX0_drawn_179 ?_
                          refine x_iadd h dX0_drawn_180 ?_
                          refine x_nmi (fun v181 ev181 => ?_)
                          refine x_istore h dX0_drawn_181 (by decide) [some (.ref (xb G + 0)), some (.int sd), some (.int nm), some (.int o), some (.int (nI m9)), some (.int x.1), some (.int v181), some (.int (nI k)), some (.ref (xb G + 34)), some (.int (nI j))] rfl ?_
                          have hsm2 : v181 = if o = -1 then m_lays x.2 93 0 70 43 else (if o = -1 then y.1.2 else y.1.2 + x.2 72 (ix o)) := by rw [ev181, hsm]; first | (rw [if_pos dm1, if_pos dm1, lays_o (by decide), h43]; exact sum_dr) | (rw [if_neg dm1, if_neg dm1, if_neg dm1, eu, ix_n (by omega), nI_clamp (by omega), (hRx.1 u (by rw [sh_o (by decide), hDx.2.2.1 70 0 (gz3_70 (Or.inl (by decide))) (by decide)]; exact hu)).1, sh_i (by decide)])
                          refine x_iinc h dX0_drawn_183 (by decide) rfl (nI (k + 1)) (nI_1 k) [some (.ref (xb G + 0)), some (.int sd), some (.int nm), some (.int o), some (.int (nI m9)), some (.int x.1), some (.int v181), some (.int (nI (k + 1))), some (.ref (xb G + 34)), some (.int (nI j))] rfl ?_
                          refine x_goto h 72 dX0_drawn_186 rfl ?_
                          refine x_wk (lv := [some (.ref (xb G + 0)), some (.int sd), some (.int nm), some (.int o), some (.int (nI m9)), some (.int x.1), some (.int v181), some (.int (nI (k + 1))), none, none]) ?_ ⟨rfl, rfl, rfl, rfl, rfl, rfl, rfl, rfl, trivial⟩
                          exact ih0 (k + 1) ((x.1, if o = -1 then y.1.2 else y.1.2 + x.2 72 (ix o)), m_lays x.2 93 0) (v181) B (by omega) (by omega) hy2 hsm2 (hDx.la hQ.2.2.1) hfB
                        · skip
                          have dm1 : o = -1 := Classical.byContradiction fun q => c162 (isB_ge hb (fun q2 => d58 ⟨q, q2⟩))
                          have hy2 : ((x.1, if o = -1 then y.1.2 else y.1.2 + x.2 72 (ix o)), m_lays x.2 93 0) = m_drGo2 (irm nm 100) o m9 (k + 1) ((sd, 0), m_begins J) := by rw [if_pos dm1]; exact (drGo2_a hy hxm dm1).symm
                          refine x_aload h dX0_drawn_165 rfl ?_
                          refine x_getiN h g_X0_213 (mlt hC.1 rfl) (hC.2.1 _ _ rfl) rfl dX0_drawn_167 ?_
                          refine x_goto h 180 dX0_drawn_170 rfl ?_
                          refine x_iadd h dX0_drawn_180 ?_
                          refine x_nmi (fun v181 ev181 => ?_)
                          refine x_istore h dX0_drawn_181 (by decide) [some (.ref (xb G + 0)), some (.int sd), some (.int nm), some (.int o), some (.int (nI m9)), some (.int x.1), some (.int v181), some (.int (nI k)), some (.ref (xb G + 34)), some (.int (nI j))] rfl ?_
                          have hsm2 : v181 = if o = -1 then m_lays x.2 93 0 70 43 else (if o = -1 then y.1.2 else y.1.2 + x.2 72 (ix o)) := by rw [ev181, hsm]; first | (rw [if_pos dm1, if_pos dm1, lays_o (by decide), h43]; exact sum_dr) | (rw [if_neg dm1, if_neg dm1, if_neg dm1, eu, ix_n (by omega), nI_clamp (by omega), (hRx.1 u (by rw [sh_o (by decide), hDx.2.2.1 70 0 (gz3_70 (Or.inl (by decide))) (by decide)]; exact hu)).1, sh_i (by decide)])
                          refine x_iinc h dX0_drawn_183 (by decide) rfl (nI (k + 1)) (nI_1 k) [some (.ref (xb G + 0)), some (.int sd), some (.int nm), some (.int o), some (.int (nI m9)), some (.int x.1), some (.int v181), some (.int (nI (k + 1))), some (.ref (xb G + 34)), some (.int (nI j))] rfl ?_
                          refine x_goto h 72 dX0_drawn_186 rfl ?_
                          refine x_wk (lv := [some (.ref (xb G + 0)), some (.int sd), some (.int nm), some (.int o), some (.int (nI m9)), some (.int x.1), some (.int v181), some (.int (nI (k + 1))), none, none]) ?_ ⟨rfl, rfl, rfl, rfl, rfl, rfl, rfl, rfl, trivial⟩
                          exact ih0 (k + 1) ((x.1, if o = -1 then y.1.2 else y.1.2 + x.2 72 (ix o)), m_lays x.2 93 0) (v181) B (by omega) (by omega) hy2 hsm2 (hDx.la hQ.2.2.1) hfB
                      · skip
                        have hjm : j < m9 := Nat.lt_of_not_le fun y => c95 ((nI_leI (by omega) (by omega)).mpr y)
                        refine x_iload h dX0_drawn_98 rfl ?_
                        refine x_ldcw h dX0_drawn_100 q1070 ?_
                        refine x_imul h dX0_drawn_103 ?_
                        refine x_sipush h dX0_drawn_104 (12345) rfl ?_
                        refine x_iadd h dX0_drawn_107 ?_
                        refine x_nmi (fun v108 ev108 => ?_)
                        refine x_istore h dX0_drawn_108 (by decide) [some (.ref (xb G + 0)), some (.int sd), some (.int nm), some (.int o), some (.int (nI m9)), some (.int v108), some (.int sm), some (.int (nI k)), some (.ref (xb G + 34)), some (.int (nI j))] rfl ?_
                        refine x_iload h dX0_drawn_110 rfl ?_
                        refine x_bipush h dX0_drawn_112 (16) rfl ?_
                        refine x_iushr h dX0_drawn_114 ?_
                        refine x_bipush h dX0_drawn_115 (12) rfl ?_
                        refine x_irem h dX0_drawn_117 (by decide) ?_
                        refine x_iload_n h dX0_drawn_118 rfl ?_
                        refine x_bipush h dX0_drawn_119 (100) rfl ?_
                        refine x_irem h dX0_drawn_121 (by decide) ?_
                        refine x_icmp_ge h 130 dX0_drawn_122 rfl (fun c122 => ?_) (fun c122 => ?_)
                        · skip
                          have d122 : ¬ irm (ush v108 16) 12 < irm nm 100 := Int32.not_lt.mpr c122
                          obtain ⟨P, hP⟩ : ∃ P : xI_T, P = x.2 := ⟨_, rfl⟩
                          have hDP : drQ J P := by rw [hP]; exact hDx
                          have hRP : RC B (sh (0 - y.2 70 43) P) 34 := by rw [hP]; exact hRx
                          have hdP : vp_in (P 72 8) 100 := by rw [hP]; exact hdx
                          have hfP : Fr q2set I B := hfB
                          obtain ⟨x9, hx9, ex9⟩ := drw_n (x := v108) hn1 hnb
                          have hx98 : vp_in (nI x9) 8 := vp_in_nI (by omega) (by decide)
                          have h01P : B 0 1 = nI nb := by rw [hfP 0 1 (by unfold q2set qset bset lset cset; omega)]; exact hnI
                          have hx2 : (v108, m_goes1 P (nI x9)) = m_drGo1 (irm nm 100) (j + 1) (y.1.1, y.2) := by rw [hP, ← ex9, ← enb, ← hDx.2.2.1 70 0 (gz3_70 (Or.inl (by decide))) (by decide)]; exact (drGo1_b hx ev108 d122).symm
                          refine x_aload_n h dX0_drawn_130 rfl ?_
                          refine x_geti h g_X0_1 (mlt hC.1 rfl) (hC.2.1 _ _ rfl) rfl dX0_drawn_131 ?_
                          refine x_eqi (nI nb) h01P ?_
                          refine x_if_le h 153 dX0_drawn_134 rfl (fun c134 => ?_) (fun c134 => ?_)
                          · skip
                            exact absurd c134 (nI_nle hn1 (by omega))
                          · skip
                            refine x_aload_n h dX0_drawn_137 rfl ?_
                            refine x_aload h dX0_drawn_138 rfl ?_
                            refine x_iload h dX0_drawn_140 rfl ?_
                            refine x_bipush h dX0_drawn_142 (8) rfl ?_
                            refine x_iushr h dX0_drawn_144 ?_
                            refine x_aload_n h dX0_drawn_145 rfl ?_
                            refine x_geti h g_X0_1 (mlt hC.1 rfl) (hC.2.1 _ _ rfl) rfl dX0_drawn_146 ?_
                            refine x_eqi (nI nb) h01P ?_
                            refine x_irem h dX0_drawn_149 (nI_ne0 hn1 (by omega)) ?_
                            refine x_eqi (nI x9) ex9 ?_
                            refine x_callVRv h (As := [.ref _, .int _]) (k0_comesIn l G n _ _ hC _ _ (sh (0 - y.2 70 43) P) 34 x9 (hC.mk (by unfold isMk; omega)) (by decide) (hQ.2.1.dr hfP hDP) hRP (sh_W hDP.1 hDP.2.1).1 (sh_W hDP.1 hDP.2.1).2 (by rw [sh_o (by decide), hDP.2.2.1 70 0 (gz3_70 (Or.inl (by decide))) (by decide), enx]; exact hx9)) m_X0_284 (mlt hC.1 rfl) (hC.2.1 _ _ rfl) dX0_drawn_150 ⟨by decide, by decide⟩ ⟨by decide, by decide⟩ rfl (Nat.le_of_ble_eq_true rfl) (fun J150 hp150 => ?_)
                            have hR150 : RC J150 (sh (0 - y.2 70 43) (m_goes1 P (nI x9))) 34 := by rw [← sh_goes1]; exact hp150.1
                            have hd150 : vp_in (m_goes1 P (nI x9) 72 8) 100 := by rw [goes1_8 hDP.1 hx98]; exact hdP
                            have hf150 : Fr q2set I J150 := hfP.tr (hp150.2.2.2.sub fun _ _ z => cset_2 z)
                            refine x_iinc h dX0_drawn_153 (by decide) rfl (nI (j + 1)) (nI_1 j) [some (.ref (xb G + 0)), some (.int sd), some (.int nm), some (.int o), some (.int (nI m9)), some (.int v108), some (.int sm), some (.int (nI k)), some (.ref (xb G + 34)), some (.int (nI (j + 1)))] rfl ?_
                            refine x_goto h 91 dX0_drawn_156 rfl ?_
                            exact ih (j + 1) ((v108), m_goes1 P (nI x9)) J150 (by omega) (by omega) hx2 (hDP.gs hx98) hR150 hd150 hf150
                        · skip
                          have d122 : irm (ush v108 16) 12 < irm nm 100 := Int32.not_le.mp c122
                          refine x_aload h dX0_drawn_125 rfl ?_
                          refine x_callVEv h (As := []) (k2_evening l G n _ _ hC _ _ 34 (hC.mk (by unfold isMk; omega))) m_X0_305 (mlt hC.1 rfl) (hC.2.1 _ _ rfl) dX0_drawn_127 ⟨by decide, by decide⟩ ⟨by decide, by decide⟩ rfl (Nat.le_of_ble_eq_true rfl) ?_
                          refine x_nmI (fun J127 eJ127 => ?_)
                          obtain ⟨P, hP⟩ : ∃ P : xI_T, P = m_ends x.2 := ⟨_, rfl⟩
                          have hDP : drQ J P := by rw [hP]; exact hDx.en
                          have hRP : RC J127 (sh (0 - y.2 70 43) P) 34 := by rw [hP]; exact (by rw [eJ127, ← sh_ends]; exact eve_R hRx (by rw [sh_i (by decide)]; exact hdx) (by rw [sh_o (by decide), hDx.2.2.1 70 0 (gz3_70 (Or.inl (by decide))) (by decide), enx]; omega))
                          have hdP : vp_in (P 72 8) 100 := by rw [hP]; exact (by rw [ends_8]; exact (fmt_day hdx).2)
                          have hfP : Fr q2set I J127 := hfB.tr (by rw [eJ127]; exact fun q k z => keve_o (by unfold q2set qset bset lset cset at z; omega) (by unfold q2set qset bset lset cset at z; omega))
                          obtain ⟨x9, hx9, ex9⟩ := drw_n (x := v108) hn1 hnb
                          have hx98 : vp_in (nI x9) 8 := vp_in_nI (by omega) (by decide)
                          have h01P : J127 0 1 = nI nb := by rw [hfP 0 1 (by unfold q2set qset bset lset cset; omega)]; exact hnI
                          have hx2 : (v108, m_goes1 P (nI x9)) = m_drGo1 (irm nm 100) (j + 1) (y.1.1, y.2) := by rw [hP, ← ex9, ← enb, ← hDx.2.2.1 70 0 (gz3_70 (Or.inl (by decide))) (by decide)]; exact (drGo1_a hx ev108 d122).symm
                          refine x_aload_n h dX0_drawn_130 rfl ?_
                          refine x_geti h g_X0_1 (mlt hC.1 rfl) (hC.2.1 _ _ rfl) rfl dX0_drawn_131 ?_
                          refine x_eqi (nI nb) h01P ?_
                          refine x_if_le h 153 dX0_drawn_134 rfl (fun c134 => ?_) (fun c134 => ?_)
                          · skip
                            exact absurd c134 (nI_nle hn1 (by omega))
                          · skip
                            refine x_aload_n h dX0_drawn_137 rfl ?_
                            refine x_aload h dX0_drawn_138 rfl ?_
                            refine x_iload h dX0_drawn_140 rfl ?_
                            refine x_bipush h dX0_drawn_142 (8) rfl ?_
                            refine x_iushr h dX0_drawn_144 ?_
                            refine x_aload_n h dX0_drawn_145 rfl ?_
                            refine x_geti h g_X0_1 (mlt hC.1 rfl) (hC.2.1 _ _ rfl) rfl dX0_drawn_146 ?_
                            refine x_eqi (nI nb) h01P ?_
                            refine x_irem h dX0_drawn_149 (nI_ne0 hn1 (by omega)) ?_
                            refine x_eqi (nI x9) ex9 ?_
                            refine x_callVRv h (As := [.ref _, .int _]) (k0_comesIn l G n _ _ hC _ _ (sh (0 - y.2 70 43) P) 34 x9 (hC.mk (by unfold isMk; omega)) (by decide) (hQ.2.1.dr hfP hDP) hRP (sh_W hDP.1 hDP.2.1).1 (sh_W hDP.1 hDP.2.1).2 (by rw [sh_o (by decide), hDP.2.2.1 70 0 (gz3_70 (Or.inl (by decide))) (by decide), enx]; exact hx9)) m_X0_284 (mlt hC.1 rfl) (hC.2.1 _ _ rfl) dX0_drawn_150 ⟨by decide, by decide⟩ ⟨by decide, by decide⟩ rfl (Nat.le_of_ble_eq_true rfl) (fun J150 hp150 => ?_)
                            have hR150 : RC J150 (sh (0 - y.2 70 43) (m_goes1 P (nI x9))) 34 := by rw [← sh_goes1]; exact hp150.1
                            have hd150 : vp_in (m_goes1 P (nI x9) 72 8) 100 := by rw [goes1_8 hDP.1 hx98]; exact hdP
                            have hf150 : Fr q2set I J150 := hfP.tr (hp150.2.2.2.sub fun _ _ z => cset_2 z)
                            refine x_iinc h dX0_drawn_153 (by decide) rfl (nI (j + 1)) (nI_1 j) [some (.ref (xb G + 0)), some (.int sd), some (.int nm), some (.int o), some (.int (nI m9)), some (.int v108), some (.int sm), some (.int (nI k)), some (.ref (xb G + 34)), some (.int (nI (j + 1)))] rfl ?_
                            refine x_goto h 91 dX0_drawn_156 rfl ?_
                            exact ih (j + 1) ((v108), m_goes1 P (nI x9)) J150 (by omega) (by omega) hx2 (hDP.gs hx98) hR150 hd150 hf150
                  exact lp91 (m9 + 1) 0 (y.1.1, y.2) J83 (by omega) (by omega) rfl hDy.1 (hp83.1 _ (sh_L (hDy.1.2.2.1 70 0 (gz3_70 (Or.inl (by decide))) (by decide)) (hDy.1.2.2.1 70 2 (gz3_70 (Or.inl (by decide))) (by decide)) (fun k _ => hDy.1.2.2.1 71 k (gz3_q (Or.inr (Or.inr (Or.inr rfl)))) (by decide)) hDy.2)) (by show vp_in (y.2 72 8) 100; rw [hDy.2 8 (by decide)]; exact hD) (hf.tr (hp83.2.sub fun _ _ z => lset_2 z))
            exact lp72 (Y + 1) 0 ((sd, 0), m_begins J) 0 I (by omega) (by omega) rfl (by show (0 : Int32) = if o = -1 then m_begins J 70 43 else 0; rw [begins_43]; split <;> rfl) ⟨drQ.beg hQ.2.2.1 hQ.2.2.2, fun j hj => by show m_begins J 72 j = J 72 j; exact begins_o (by decide) (by decide) (by omega)⟩ Fr.rf
          · skip
            have d58 : ¬ o = -1 ∧ m_isB J o = 0 := (in_m1 hb).mp (by rw [← hI0]; exact c58)
            have hz : (m_drawn J sd nm o).1 = -1 := by unfold m_drawn; rw [if_neg c10, if_neg c24, if_neg d35, if_neg d44, if_pos d58]
            refine x_iconst h dX0_drawn_61 (-1) rfl ?_
            exact x_iret h dX0_drawn_62 rfl ⟨rfl, rfl, rfl, rfl, _, rfl, hz.symm, Fr.rf⟩
theorem k0_drawn (l : Launch) (G : xG_T) (n : Nat) (Ty : Nat → xs_T) (F : xF_T) (hC : WC n Ty F) (I : xI_T) (L : xL_T) (J : xI_T) (sd nm o : Int32) (hQ : QS n Ty I F J) (hD : vp_in (J 72 8) 100) : CR l (270) yX0_drawn cX0_drawn 10 (some .int) G n Ty F [.ref (xb G + 0), .int sd, .int nm, .int o] I L (aR (fun r I2 => r = (m_drawn J sd nm o).1 ∧ Fr q2set I I2)) := by
  rcases Nat.eq_zero_or_pos (ix (J 70 0)) with h | h
  · exact k0_drawn0 l G n Ty F hC I L J sd nm o hQ hD h
  · exact k0_drawn1 l G n Ty F hC I L J sd nm o hQ hD h
