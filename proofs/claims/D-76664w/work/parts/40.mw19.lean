/-! WALKS OF THE REFERENCE: rings -/
theorem g_X3_113 : xfg RX3 113 3 53 := ⟨_, _, _, rfl, by decide, in_X3, q1733, rfl⟩
theorem m_X3_311 : xcv RX3 311 3 yX3_ring cX3_ring 3 (some .int) 0 := ⟨_, _, _, rfl, lw_V q2074 q2076 qs83 q102 q2077, rfl, by decide +kernel, by decide +kernel, by decide +kernel⟩
set_option maxHeartbeats 4000000 in
theorem t_ring (l : Launch) (G : xG_T) (n : Nat) (hn : 103 ≤ n) (I : xI_T) (L : xL_T)   : CM l 1 yX3_ring cX3_ring 3 (some .int) G n [.ref (xb G + 70)] I L (some (.int ((m_ring I).1))) ((m_ring I).2) (L) := by
  refine Cg.intro (cls := RX3) (pad := 2) (lv := [some (.ref (xb G + 70)), none, none]) rfl (by decide) (Nat.le_of_ble_eq_true rfl) rfl (fun Θ h => ?_)
  refine x_iconst h dX3_ring_0 (0) rfl ?_
  refine x_istore_n h dX3_ring_1 rfl (by decide) [some (.ref (xb G + 70)), some (.int 0), none] rfl ?_
  have lp2 : ∀ (d : Nat) (k : Nat) (J : xI_T), 64 - k < d → (k ≤ 64) → (J = ringc I k) → X Θ 0 0 n TyM J L FM 2 [some (.ref (xb G + 70)), some (.int (nI k)), none] [] := by
    intro d
    induction d with
    | zero =>
      intro k J hlt
      exact absurd hlt (Nat.not_lt_zero _)
    | succ d ih =>
      intro k J hlt hk hJ
      refine x_iload_n h dX3_ring_2 rfl ?_
      refine x_bipush h dX3_ring_3 (64) rfl ?_
      refine x_icmp_ge h 35 dX3_ring_5 rfl (fun c5 => ?_) (fun c5 => ?_)
      · skip
        have hkN : k = 64 := Nat.le_antisymm hk (nleN rfl (by decide) (by omega) c5)
        refine x_iconst h dX3_ring_35 (0) rfl ?_
        refine x_istore_n h dX3_ring_36 rfl (by decide) [some (.ref (xb G + 70)), some (.int 0), none] rfl ?_
        obtain ⟨J0, eJ0⟩ : ∃ J0 : xI_T, J0 = J := ⟨_, rfl⟩
        have lp37 : ∀ (d : Nat) (b : Nat) (K : xI_T), 8 - b < d → (b ≤ 8) → (K = itI m_fwO b J0) → X Θ 0 0 n TyM K L FM 37 [some (.ref (xb G + 70)), some (.int (nI b)), none] [] := by
          intro d
          induction d with
          | zero =>
            intro b K hlt
            exact absurd hlt (Nat.not_lt_zero _)
          | succ d ih =>
            intro b K hlt hb hK
            refine x_iload_n h dX3_ring_37 rfl ?_
            refine x_bipush h dX3_ring_38 (8) rfl ?_
            refine x_icmp_ge h 106 dX3_ring_40 rfl (fun c40 => ?_) (fun c40 => ?_)
            · skip
              have hb8 : b = 8 := Nat.le_antisymm hb (nleN rfl (by decide) (by omega) c40)
              have hR : K = m_fw (m_ring0 I) := by rw [hK, hb8, eJ0, hJ, hkN]; rfl
              refine x_bipush h dX3_ring_106 (99) rfl ?_
              refine x_istore_n h dX3_ring_108 rfl (by decide) [some (.ref (xb G + 70)), some (.int 99), none] rfl ?_
              refine x_iconst h dX3_ring_109 (0) rfl ?_
              refine x_istore_n h dX3_ring_110 rfl (by decide) [some (.ref (xb G + 70)), some (.int 99), some (.int 0)] rfl ?_
              have lp111 : ∀ (d : Nat) (k : Nat) (x : Int32), 8 - k < d → (k ≤ 8) → (x = m_least K k) → X Θ 0 0 n TyM K L FM 111 [some (.ref (xb G + 70)), some (.int x), some (.int (nI k))] [] := by
                intro d
                induction d with
                | zero =>
                  intro k x hlt
                  exact absurd hlt (Nat.not_lt_zero _)
                | succ d ih =>
                  intro k x hlt hk hx
                  refine x_iload_n h dX3_ring_111 rfl ?_
                  refine x_bipush h dX3_ring_112 (8) rfl ?_
                  refine x_icmp_ge h 137 dX3_ring_114 rfl (fun c114 => ?_) (fun c114 => ?_)
                  · skip
                    have hkN : k = 8 := Nat.le_antisymm hk (nleN rfl (by decide) (by omega) c114)
                    refine x_iload_n h dX3_ring_137 rfl ?_
                    refine x_bipush h dX3_ring_138 (99) rfl ?_
                    refine x_icmp_ne h 148 dX3_ring_140 rfl (fun c140 => ?_) (fun c140 => ?_)
                    · skip
                      refine x_iload_n h dX3_ring_148 rfl ?_
                      exact x_iret h dX3_ring_149 rfl (xpE.to (by rw [ring_1 hR, ← hkN, ← hx]; first | (rw [if_neg c140]; done) | (rw [if_pos c140]; done)) (by rw [ring_1 hR]) rfl rfl)
                    · skip
                      refine x_bipush h dX3_ring_143 (-2) rfl ?_
                      refine x_goto h 149 dX3_ring_145 rfl ?_
                      exact x_iret h dX3_ring_149 rfl (xpE.to (by rw [ring_1 hR, ← hkN, ← hx]; first | (rw [if_neg c140]; done) | (rw [if_pos c140]; done)) (by rw [ring_1 hR]) rfl rfl)
                  · skip
                    have hkN : k < 8 := nltN rfl (by decide) (by omega) c114
                    refine x_iload_n h dX3_ring_117 rfl ?_
                    refine x_aload_n h dX3_ring_118 rfl ?_
                    refine x_getr h (j := 102) g_X3_113 (mlt hn rfl) rfl (by decide) rfl dX3_ring_119 ?_
                    refine x_bipush h dX3_ring_122 (9) rfl ?_
                    refine x_iload_n h dX3_ring_124 rfl ?_
                    refine x_imulE h (nI (9 * k)) (pk_mul 9 k) dX3_ring_125 ?_
                    refine x_iald h (mlt hn rfl) rfl (vp_in_nI (by omega) (by first | decide | omega)) (9 * k) (nI_clamp (by omega)) dX3_ring_126 ?_
                    refine x_mmin h q1992 (by decide) ⟨by decide, by decide⟩ (Nat.le_of_ble_eq_true rfl) dX3_ring_127 ?_
                    refine x_nmi (fun v130 ev130 => ?_)
                    refine x_istore_n h dX3_ring_130 rfl (by decide) [some (.ref (xb G + 70)), some (.int v130), some (.int (nI k))] rfl ?_
                    refine x_iinc h dX3_ring_131 (by decide) rfl (nI (k + 1)) (nI_1 k) [some (.ref (xb G + 70)), some (.int v130), some (.int (nI (k + 1)))] rfl ?_
                    refine x_goto h 111 dX3_ring_134 rfl ?_
                    exact ih (k + 1) (v130) (by omega) (by omega) (by rw [ev130, hx]; rfl)
              exact lp111 9 0 99 (by decide) (by decide) rfl
            · skip
              have hb8 : b < 8 := nltN rfl (by decide) (by omega) c40
              refine x_iconst h dX3_ring_43 (0) rfl ?_
              refine x_istore_n h dX3_ring_44 rfl (by decide) [some (.ref (xb G + 70)), some (.int (nI b)), some (.int 0)] rfl ?_
              have ih0 := ih
              have hlt0 := hlt
              have lp45 : ∀ (d : Nat) (k : Nat) (M : xI_T), 64 - k < d → (k ≤ 64) → (M = itI (m_fwI b) k K) → X Θ 0 0 n TyM M L FM 45 [some (.ref (xb G + 70)), some (.int (nI b)), some (.int (nI k))] [] := by
                intro d
                induction d with
                | zero =>
                  intro k M hlt
                  exact absurd hlt (Nat.not_lt_zero _)
                | succ d ih =>
                  intro k M hlt hk hM
                  refine x_iload_n h dX3_ring_45 rfl ?_
                  refine x_bipush h dX3_ring_46 (64) rfl ?_
                  refine x_icmp_ge h 100 dX3_ring_48 rfl (fun c48 => ?_) (fun c48 => ?_)
                  · skip
                    have hkN : k = 64 := Nat.le_antisymm hk (nleN rfl (by decide) (by omega) c48)
                    refine x_iinc h dX3_ring_100 (by decide) rfl (nI (b + 1)) (nI_1 b) [some (.ref (xb G + 70)), some (.int (nI (b + 1))), some (.int (nI k))] rfl ?_
                    refine x_goto h 37 dX3_ring_103 rfl ?_
                    refine x_wk (lv := [some (.ref (xb G + 70)), some (.int (nI (b + 1))), none]) ?_ ⟨rfl, rfl, trivial⟩
                    exact ih0 (b + 1) M (by omega) (by omega) (by show _ = itI (m_fwI b) 64 (itI m_fwO b J0); rw [← hK, hM, hkN])
                  · skip
                    have hkN : k < 64 := nltN rfl (by decide) (by omega) c48
                    refine x_aload_n h dX3_ring_51 rfl ?_
                    refine x_getr h (j := 102) g_X3_113 (mlt hn rfl) rfl (by decide) rfl dX3_ring_52 ?_
                    refine x_iload_n h dX3_ring_55 rfl ?_
                    refine x_aload_n h dX3_ring_56 rfl ?_
                    refine x_getr h (j := 102) g_X3_113 (mlt hn rfl) rfl (by decide) rfl dX3_ring_57 ?_
                    refine x_iload_n h dX3_ring_60 rfl ?_
                    refine x_iald h (mlt hn rfl) rfl (vp_in_nI (by omega) (by first | decide | omega)) (k) (nI_clamp (by omega)) dX3_ring_61 ?_
                    refine x_aload_n h dX3_ring_62 rfl ?_
                    refine x_getr h (j := 102) g_X3_113 (mlt hn rfl) rfl (by decide) rfl dX3_ring_63 ?_
                    refine x_iload_n h dX3_ring_66 rfl ?_
                    refine x_iload_n h dX3_ring_67 rfl ?_
                    refine x_bipush h dX3_ring_68 (8) rfl ?_
                    refine x_irem h dX3_ring_70 (by decide) ?_
                    refine x_eqi (nI (k % 8)) (ring_rem (by omega)) ?_
                    refine x_isubE h (nI (k - k % 8)) (pk_sub (Nat.mod_le _ _)) dX3_ring_71 ?_
                    refine x_iload_n h dX3_ring_72 rfl ?_
                    refine x_iaddE h (nI (k - k % 8 + b)) (nI_add (k - k % 8) b) dX3_ring_73 ?_
                    refine x_iald h (mlt hn rfl) rfl (vp_in_nI (by omega) (by first | decide | omega)) (k - k % 8 + b) (nI_clamp (by omega)) dX3_ring_74 ?_
                    refine x_aload_n h dX3_ring_75 rfl ?_
                    refine x_getr h (j := 102) g_X3_113 (mlt hn rfl) rfl (by decide) rfl dX3_ring_76 ?_
                    refine x_bipush h dX3_ring_79 (8) rfl ?_
                    refine x_iload_n h dX3_ring_81 rfl ?_
                    refine x_imulE h (nI (8 * b)) (pk_mul 8 b) dX3_ring_82 ?_
                    refine x_iload_n h dX3_ring_83 rfl ?_
                    refine x_bipush h dX3_ring_84 (8) rfl ?_
                    refine x_irem h dX3_ring_86 (by decide) ?_
                    refine x_eqi (nI (k % 8)) (ring_rem (by omega)) ?_
                    refine x_iaddE h (nI (8 * b + k % 8)) (nI_add (8 * b) (k % 8)) dX3_ring_87 ?_
                    refine x_iald h (mlt hn rfl) rfl (vp_in_nI (by omega) (by first | decide | omega)) (8 * b + k % 8) (nI_clamp (by omega)) dX3_ring_88 ?_
                    refine x_iadd h dX3_ring_89 ?_
                    refine x_mmin h q1992 (by decide) ⟨by decide, by decide⟩ (Nat.le_of_ble_eq_true rfl) dX3_ring_90 ?_
                    refine x_iast h (mlt hn rfl) rfl (vp_in_nI (by omega) (by first | decide | omega)) (k) (nI_clamp (by omega)) dX3_ring_93 (fun J93 eJ93 => ?_)
                    refine x_iinc h dX3_ring_94 (by decide) rfl (nI (k + 1)) (nI_1 k) [some (.ref (xb G + 70)), some (.int (nI b)), some (.int (nI (k + 1)))] rfl ?_
                    refine x_goto h 45 dX3_ring_97 rfl ?_
                    exact ih (k + 1) J93 (by omega) (by omega) (by rw [eJ93]; show _ = m_fwI b k (itI (m_fwI b) k K); rw [← hM]; rfl)
              exact lp45 65 0 K (by decide) (by decide) rfl
        exact lp37 9 0 J (by decide) (by decide) eJ0.symm
      · skip
        have hkN : k < 64 := nltN rfl (by decide) (by omega) c5
        refine x_aload_n h dX3_ring_8 rfl ?_
        refine x_getr h (j := 102) g_X3_113 (mlt hn rfl) rfl (by decide) rfl dX3_ring_9 ?_
        refine x_iload_n h dX3_ring_12 rfl ?_
        refine x_aload_n h dX3_ring_13 rfl ?_
        refine x_getr h (j := 95) g_X3_92 (mlt hn rfl) rfl (by decide) rfl dX3_ring_14 ?_
        refine x_iload_n h dX3_ring_17 rfl ?_
        refine x_iald h (mlt hn rfl) rfl (vp_in_nI (by omega) (by first | decide | omega)) (k) (nI_clamp (by omega)) dX3_ring_18 ?_
        refine x_if_le h 26 dX3_ring_19 rfl (fun c19 => ?_) (fun c19 => ?_)
        · skip
          refine x_bipush h dX3_ring_26 (99) rfl ?_
          refine x_iast h (mlt hn rfl) rfl (vp_in_nI (by omega) (by first | decide | omega)) (k) (nI_clamp (by omega)) dX3_ring_28 (fun J28 eJ28 => ?_)
          refine x_iinc h dX3_ring_29 (by decide) rfl (nI (k + 1)) (nI_1 k) [some (.ref (xb G + 70)), some (.int (nI (k + 1))), none] rfl ?_
          refine x_goto h 2 dX3_ring_32 rfl ?_
          exact ih (k + 1) J28 (by omega) (by omega) (by rw [eJ28]; first | exact ringc_up hJ (if_pos c19).symm | exact ringc_up hJ (if_neg c19).symm)
        · skip
          refine x_iconst h dX3_ring_22 (1) rfl ?_
          refine x_goto h 28 dX3_ring_23 rfl ?_
          refine x_iast h (mlt hn rfl) rfl (vp_in_nI (by omega) (by first | decide | omega)) (k) (nI_clamp (by omega)) dX3_ring_28 (fun J28 eJ28 => ?_)
          refine x_iinc h dX3_ring_29 (by decide) rfl (nI (k + 1)) (nI_1 k) [some (.ref (xb G + 70)), some (.int (nI (k + 1))), none] rfl ?_
          refine x_goto h 2 dX3_ring_32 rfl ?_
          exact ih (k + 1) J28 (by omega) (by omega) (by rw [eJ28]; first | exact ringc_up hJ (if_pos c19).symm | exact ringc_up hJ (if_neg c19).symm)
  exact lp2 65 0 I (by decide) (by decide) ringc_z.symm
set_option maxHeartbeats 4000000 in
theorem t_round (l : Launch) (G : xG_T) (n : Nat) (hn : 103 ≤ n) (I : xI_T) (L : xL_T) (s : Int32) (w : Int32) (hT : Wtop I) : CM l 8 yX3_round cX3_round 6 (some .int) G n [.ref (xb G + 70), .int s, .int w] I L (some (.int ((m_round I L s w).1))) ((m_round I L s w).2) (L) := by
  refine Cg.intro (cls := RX3) (pad := 3) (lv := [some (.ref (xb G + 70)), some (.int s), some (.int w), none, none, none]) rfl (by decide) (Nat.le_of_ble_eq_true rfl) rfl (fun Θ h => ?_)
  have cut18 : ∀ (_u : Unit), (m_round I L s w = m_roundB I L s w) → (vp_in s 6) → X Θ 0 0 n TyM I L FM 18 [some (.ref (xb G + 70)), some (.int s), some (.int w), none, none, none] [] := by
    intro _u hm hs
    refine x_aload_n h dX3_round_18 rfl ?_
    refine x_iload_n h dX3_round_19 rfl ?_
    refine x_callVEi h (As := [.int _]) (t_noBytes l G n hn _ _ _ hs) m_X3_276 (mlt hn rfl) rfl dX3_round_20 ⟨by decide, by decide⟩ ⟨by decide, by decide⟩ rfl (Nat.le_of_ble_eq_true rfl) ?_
    refine x_nmi (fun v23 ev23 => ?_)
    refine x_istore_n h dX3_round_23 rfl (by decide) [some (.ref (xb G + 70)), some (.int s), some (.int w), some (.int v23), none, none] rfl ?_
    refine x_iload_n h dX3_round_24 rfl ?_
    refine x_if_ge h 30 dX3_round_25 rfl (fun c25 => ?_) (fun c25 => ?_)
    · skip
      have n25 := Int32.not_lt.mpr c25
      refine x_aload_n h dX3_round_30 rfl ?_
      refine x_geti h g_X3_116 (mlt hn rfl) rfl rfl dX3_round_31 ?_
      refine x_if_ne h 40 dX3_round_34 rfl (fun c34 => ?_) (fun c34 => ?_)
      · skip
        refine x_aload_n h dX3_round_40 rfl ?_
        refine x_iload_n h dX3_round_41 rfl ?_
        refine x_callVEv h (As := [.int _]) (t_reads l G n hn _ _ _ hs hT.1.1) m_X3_279 (mlt hn rfl) rfl dX3_round_42 ⟨by decide, by decide⟩ ⟨by decide, by decide⟩ rfl (Nat.le_of_ble_eq_true rfl) ?_
        refine x_nmI (fun J42 eJ42 => ?_)
        refine x_aload_n h dX3_round_45 rfl ?_
        refine x_callVEv h (As := []) (t_begins l G n hn _ _  ) m_X3_267 (mlt hn rfl) rfl dX3_round_46 ⟨by decide, by decide⟩ ⟨by decide, by decide⟩ rfl (Nat.le_of_ble_eq_true rfl) ?_
        refine x_nmI (fun J46 eJ46 => ?_)
        refine x_aload_n h dX3_round_49 rfl ?_
        refine x_callVEv h (As := []) (t_goes l G n hn _ _  (by rw [eJ46, eJ42]; exact hT.reads.begins)) m_X3_270 (mlt hn rfl) rfl dX3_round_50 ⟨by decide, by decide⟩ ⟨by decide, by decide⟩ rfl (Nat.le_of_ble_eq_true rfl) ?_
        refine x_nmI (fun J50 eJ50 => ?_)
        refine x_iconst h dX3_round_53 (0) rfl ?_
        refine x_istore h dX3_round_54 (by decide) [some (.ref (xb G + 70)), some (.int s), some (.int w), some (.int v23), some (.int 0), none] rfl ?_
        refine x_iconst h dX3_round_56 (1) rfl ?_
        refine x_istore h dX3_round_57 (by decide) [some (.ref (xb G + 70)), some (.int s), some (.int w), some (.int v23), some (.int 0), some (.int 1)] rfl ?_
        obtain ⟨b, hb9, hb⟩ : ∃ b : Nat, b < 9 ∧ I 70 0 = nI b := vp_in_of hT.1.1 (by decide)
        have hb0 : 0 < b := Nat.pos_of_ne_zero (fun z => c34 (by rw [hb, z]; rfl))
        have hB50 : J50 = m_behind (m_reads I L s) := by rw [eJ50, eJ46, eJ42]; rfl
        have h0 : J50 70 0 = nI b := by rw [eJ50, eJ46, eJ42]; show m_goes _ 70 0 = _; unfold m_goes; rw [goGo_o (gz3_70 (Or.inl (by decide))), begins_o (by decide) (by decide) (by decide), reads_o (by decide) (by decide)]; exact hb
        have lp59 : ∀ (d : Nat) (k f : Nat), b - k < d → (k + 1 ≤ b) → (f ≤ k) → (nI f = m_gain J50 k) → X Θ 0 0 n TyM J50 L FM 59 [some (.ref (xb G + 70)), some (.int s), some (.int w), some (.int v23), some (.int (nI f)), some (.int (nI (k + 1)))] [] := by
          intro d
          induction d with
          | zero =>
            intro k f hlt
            exact absurd hlt (Nat.not_lt_zero _)
          | succ d ih =>
            intro k f hlt hk hfk hf
            refine x_iload h dX3_round_59 rfl ?_
            refine x_aload_n h dX3_round_61 rfl ?_
            refine x_geti h g_X3_116 (mlt hn rfl) rfl rfl dX3_round_62 ?_
            refine x_icmp_ge h 111 dX3_round_65 rfl (fun c65 => ?_) (fun c65 => ?_)
            · skip
              have hkb : k + 1 = b := Nat.le_antisymm hk (nleN h0 (by omega) (by omega) c65)
              have hB : m_roundB I L s w = if w = 0 then m_ring (m_lays J50 93 0) else (nI f, m_lays J50 93 0) := by unfold m_roundB; rw [if_neg (by rw [← ev23]; exact n25), if_neg c34, ← hB50, hb, ix_n (by omega), show b - 1 = k by omega, ← hf]
              refine x_aload_n h dX3_round_111 rfl ?_
              refine x_aload_n h dX3_round_112 rfl ?_
              refine x_getr h (j := 93) g_X3_86 (mlt hn rfl) rfl (by decide) rfl dX3_round_113 ?_
              refine x_iconst h dX3_round_116 (0) rfl ?_
              refine x_callVEv h (As := [.ref _, .int _]) (t_laysBack l G n hn _ _ 93 0 31 (Nat.le_of_ble_eq_true rfl) rfl (Nat.le_of_ble_eq_true rfl) (Nat.le_of_ble_eq_true rfl) (by decide)) m_X3_273 (mlt hn rfl) rfl dX3_round_117 ⟨by decide, by decide⟩ ⟨by decide, by decide⟩ rfl (Nat.le_of_ble_eq_true rfl) ?_
              refine x_nmI (fun J117 eJ117 => ?_)
              refine x_iload_n h dX3_round_120 rfl ?_
              refine x_if_ne h 131 dX3_round_121 rfl (fun c121 => ?_) (fun c121 => ?_)
              · skip
                refine x_iload h dX3_round_131 rfl ?_
                exact x_iret h dX3_round_133 rfl (xpE.to (by rw [hm, hB, ← eJ117]; first | (rw [if_pos c121]; done) | (rw [if_neg c121]; done)) (by rw [hm, hB, ← eJ117]; first | (rw [eJ125, if_pos c121]; done) | (rw [if_neg c121]; done)) rfl rfl)
              · skip
                refine x_aload_n h dX3_round_124 rfl ?_
                refine x_callVEi h (As := []) (t_ring l G n hn _ _  ) m_X3_311 (mlt hn rfl) rfl dX3_round_125 ⟨by decide, by decide⟩ ⟨by decide, by decide⟩ rfl (Nat.le_of_ble_eq_true rfl) ?_
                refine x_nmI (fun J125 eJ125 => ?_)
                refine x_goto h 133 dX3_round_128 rfl ?_
                exact x_iret h dX3_round_133 rfl (xpE.to (by rw [hm, hB, ← eJ117]; first | (rw [if_pos c121]; done) | (rw [if_neg c121]; done)) (by rw [hm, hB, ← eJ117]; first | (rw [eJ125, if_pos c121]; done) | (rw [if_neg c121]; done)) rfl rfl)
            · skip
              have hkb : k + 1 < b := nltN h0 (by omega) (by omega) c65
              refine x_aload_n h dX3_round_68 rfl ?_
              refine x_getr h (j := 72) g_X3_22 (mlt hn rfl) rfl (by decide) rfl dX3_round_69 ?_
              refine x_iload h dX3_round_72 rfl ?_
              refine x_iald h (mlt hn rfl) rfl (vp_in_nI (by omega) (by first | decide | omega)) (k + 1) (nI_clamp (by omega)) dX3_round_74 ?_
              refine x_aload_n h dX3_round_75 rfl ?_
              refine x_getr h (j := 93) g_X3_86 (mlt hn rfl) rfl (by decide) rfl dX3_round_76 ?_
              refine x_iload h dX3_round_79 rfl ?_
              refine x_iald h (mlt hn rfl) rfl (vp_in_nI (by omega) (by first | decide | omega)) (k + 1) (nI_clamp (by omega)) dX3_round_81 ?_
              refine x_isub h dX3_round_82 ?_
              refine x_aload_n h dX3_round_83 rfl ?_
              refine x_getr h (j := 72) g_X3_22 (mlt hn rfl) rfl (by decide) rfl dX3_round_84 ?_
              refine x_iload h dX3_round_87 rfl ?_
              refine x_iald h (mlt hn rfl) rfl (vp_in_nI (by omega) (by first | decide | omega)) (f) (nI_clamp (by omega)) dX3_round_89 ?_
              refine x_aload_n h dX3_round_90 rfl ?_
              refine x_getr h (j := 93) g_X3_86 (mlt hn rfl) rfl (by decide) rfl dX3_round_91 ?_
              refine x_iload h dX3_round_94 rfl ?_
              refine x_iald h (mlt hn rfl) rfl (vp_in_nI (by omega) (by first | decide | omega)) (f) (nI_clamp (by omega)) dX3_round_96 ?_
              refine x_isub h dX3_round_97 ?_
              refine x_icmp_le h 105 dX3_round_98 rfl (fun c98 => ?_) (fun c98 => ?_)
              · skip
                refine x_iinc h dX3_round_105 (by decide) rfl (nI (k + 1 + 1)) (nI_1 (k + 1)) [some (.ref (xb G + 70)), some (.int s), some (.int w), some (.int v23), some (.int (nI f)), some (.int (nI (k + 1 + 1)))] rfl ?_
                refine x_goto h 59 dX3_round_108 rfl ?_
                exact ih (k + 1) (f) (by omega) (by omega) (by omega) (by first | exact gain_b hf (by omega) c98 | exact gain_a hf (by omega) c98)
              · skip
                refine x_iload h dX3_round_101 rfl ?_
                refine x_istore h dX3_round_103 (by decide) [some (.ref (xb G + 70)), some (.int s), some (.int w), some (.int v23), some (.int (nI (k + 1))), some (.int (nI (k + 1)))] rfl ?_
                refine x_iinc h dX3_round_105 (by decide) rfl (nI (k + 1 + 1)) (nI_1 (k + 1)) [some (.ref (xb G + 70)), some (.int s), some (.int w), some (.int v23), some (.int (nI (k + 1))), some (.int (nI (k + 1 + 1)))] rfl ?_
                refine x_goto h 59 dX3_round_108 rfl ?_
                exact ih (k + 1) (k + 1) (by omega) (by omega) (by omega) (by first | exact gain_b hf (by omega) c98 | exact gain_a hf (by omega) c98)
        exact lp59 (b + 1) 0 0 (by omega) (by omega) (by omega) rfl
      · skip
        refine x_bipush h dX3_round_37 (-2) rfl ?_
        exact x_iret h dX3_round_39 rfl (xpE.to (by rw [hm]; unfold m_roundB; rw [if_neg (by rw [← ev23]; exact n25), if_pos c34]) (by rw [hm]; unfold m_roundB; rw [if_neg (by rw [← ev23]; exact n25), if_pos c34]) rfl rfl)
    · skip
      have n25 := Int32.not_le.mp c25
      refine x_iload_n h dX3_round_28 rfl ?_
      exact x_iret h dX3_round_29 rfl (xpE.to (by rw [hm]; unfold m_roundB; rw [if_pos (by rw [← ev23]; exact n25), ev23]) (by rw [hm]; unfold m_roundB; rw [if_pos (by rw [← ev23]; exact n25)]) rfl rfl)
  refine x_iload_n h dX3_round_0 rfl ?_
  refine x_callSEi h (As := [.int _]) (t_isShelf l G n hn _ _ _ ) m_X3_127 dX3_round_1 ⟨by decide, by decide⟩ ⟨by decide, by decide⟩ rfl (Nat.le_of_ble_eq_true rfl) ?_
  refine x_if_eq h 16 dX3_round_4 rfl (fun c4 => ?_) (fun c4 => ?_)
  · skip
    refine x_iconst h dX3_round_16 (-1) rfl ?_
    exact x_iret h dX3_round_17 rfl (xpE.to (by subst_vars; first | with_reducible rfl | (simp only [m_round, *]; done) | (simp only [m_round, ix, *]; rfl) | (simp [m_round, ix, up2_ap, bec_k, bec_i, *]; done)) (by subst_vars; first | with_reducible rfl | (simp only [m_round, *]; done) | (simp only [m_round, ix, *]; rfl) | (simp [m_round, ix, up2_ap, bec_k, bec_i, *]; done)) rfl rfl)
  · skip
    refine x_iload_n h dX3_round_7 rfl ?_
    refine x_iconst h dX3_round_8 (0) rfl ?_
    refine x_iconst h dX3_round_9 (1) rfl ?_
    refine x_callSEi h (As := [.int _, .int _, .int _]) (t_within l G n hn _ _ _ _ _ ) m_X3_119 dX3_round_10 ⟨by decide, by decide⟩ ⟨by decide, by decide⟩ rfl (Nat.le_of_ble_eq_true rfl) ?_
    refine x_if_ne h 18 dX3_round_13 rfl (fun c13 => ?_) (fun c13 => ?_)
    · skip
      exact cut18 () (by unfold m_round; rw [if_neg c4, if_neg c13]; rfl) (inR_s c4)
    · skip
      refine x_iconst h dX3_round_16 (-1) rfl ?_
      exact x_iret h dX3_round_17 rfl (xpE.to (by subst_vars; first | with_reducible rfl | (simp only [m_round, *]; done) | (simp only [m_round, ix, *]; rfl) | (simp [m_round, ix, up2_ap, bec_k, bec_i, *]; done)) (by subst_vars; first | with_reducible rfl | (simp only [m_round, *]; done) | (simp only [m_round, ix, *]; rfl) | (simp [m_round, ix, up2_ap, bec_k, bec_i, *]; done)) rfl rfl)
