/-! WALKS OF THE REFERENCE: orders -/
theorem g_X3_107 : xfg RX3 107 3 50 := ⟨_, _, _, rfl, by decide, in_X3, q1730, rfl⟩
theorem m_X3_300 : xcv RX3 300 3 yX3_orders cX3_orders 6 (none) 3 := ⟨_, _, _, rfl, lw_V q2058 q2060 qs81 q102 q2061, rfl, by decide +kernel, by decide +kernel, by decide +kernel⟩
theorem g_X3_297 : xfg RX3 297 3 52 := ⟨_, _, _, rfl, by decide, in_X3, q1732, rfl⟩
theorem p_X3_297 : xfp RX3 297 3 52 (tyX3 52) false := ⟨_, _, _, tyX3, rfl, by decide, in_X3, q1732, rfl, tyX3_ok, nmX3, tyX3_ok 52 (by decide), rfl⟩
theorem g_X3_110 : xfg RX3 110 3 51 := ⟨_, _, _, rfl, by decide, in_X3, q1731, rfl⟩
theorem m_X3_303 : xcs RX3 303 yJ13_bitCount cJ13_bitCount 1 (some .int) 1 := ⟨lw_S q2057 q986 q127 q987, by decide +kernel, by decide +kernel, by decide +kernel⟩
set_option maxHeartbeats 4000000 in
theorem t_ordS (l : Launch) (G : xG_T) (n : Nat) (hn : 103 ≤ n) (I : xI_T) (L : xL_T) (e : Nat) (IH : OrdP e) (i t : Nat) (o : Int32) (hit : i + pcn t ≤ 5) (hte : pcn t < e + 1) (ht : t < 256) (hM : Wmk I) (hW : Wlaw I) (ht8 : ∀ j : Nat, j < i → vp_in (I 100 j) 8) (ho : vp_in o 8) : CM l (7 + (e + 1)) yX3_orders cX3_orders 6 (none) G n [.ref (xb G + 70), .int (nI i), .int (nI t), .int o] I L (none) (m_ord o (e + 1) i (nI t) I) (L) := by
  refine Cg.intro (cls := RX3) (pad := 2) (lv := [some (.ref (xb G + 70)), some (.int (nI i)), some (.int (nI t)), some (.int o), none, none]) rfl (by decide) (Nat.le_of_ble_eq_true rfl) rfl (fun Θ h => ?_)
  refine x_iload_n h dX3_orders_0 rfl ?_
  refine x_if_ne h 91 dX3_orders_1 rfl (fun c1 => ?_) (fun c1 => ?_)
  · skip
    obtain ⟨b, hb9, hb⟩ : ∃ b : Nat, b < 9 ∧ I 70 0 = nI b := vp_in_of hM.1 (by decide)
    have hE : m_ord o (e + 1) i (nI t) I = itI (m_ordF o e i (nI t)) b I := by rw [ord_1 c1, hb, ix_n (by omega)]
    have hp1 : 1 ≤ pcn t := Nat.pos_of_ne_zero (fun z => c1 (by rw [pcn_0 ht z]; rfl))
    refine x_iconst h dX3_orders_91 (0) rfl ?_
    refine x_istore h dX3_orders_92 (by decide) [some (.ref (xb G + 70)), some (.int (nI i)), some (.int (nI t)), some (.int o), some (.int 0), none] rfl ?_
    have lp94 : ∀ (d : Nat) (k : Nat) (J : xI_T), b - k < d → (k ≤ b) → (J = itI (m_ordF o e i (nI t)) k I) → (ordK i I J) → X Θ 0 0 n TyM J L FM 94 [some (.ref (xb G + 70)), some (.int (nI i)), some (.int (nI t)), some (.int o), some (.int (nI k)), none] [] := by
      intro d
      induction d with
      | zero =>
        intro k J hlt
        exact absurd hlt (Nat.not_lt_zero _)
      | succ d ih =>
        intro k J hlt hk hJ hK
        have hWJ := hK.W hM hW
        have h0 : J 70 0 = nI b := hWJ.2.2.trans hb
        refine x_iload h dX3_orders_94 rfl ?_
        refine x_aload_n h dX3_orders_96 rfl ?_
        refine x_geti h g_X3_116 (mlt hn rfl) rfl rfl dX3_orders_97 ?_
        refine x_icmp_ge h 145 dX3_orders_100 rfl (fun c100 => ?_) (fun c100 => ?_)
        · skip
          have hkb : k = b := Nat.le_antisymm hk (nleN h0 (by omega) (by omega) c100)
          exact x_vret h dX3_orders_145 rfl (xpE.to rfl (by rw [hE, hJ, hkb]) rfl rfl)
        · skip
          have hkb : k < b := nltN h0 (by omega) (by omega) c100
          refine x_iload_n h dX3_orders_103 rfl ?_
          refine x_iload h dX3_orders_104 rfl ?_
          refine x_ishr h dX3_orders_106 ?_
          refine x_iconst h dX3_orders_107 (1) rfl ?_
          refine x_iand h dX3_orders_108 ?_
          refine x_if_ne h 115 dX3_orders_109 rfl (fun c109 => ?_) (fun c109 => ?_)
          · skip
            obtain ⟨u, hu, eu, pu⟩ := ordb ht (by omega) c109
            refine x_aload_n h dX3_orders_115 rfl ?_
            refine x_getr h (j := 100) g_X3_107 (mlt hn rfl) rfl (by decide) rfl dX3_orders_116 ?_
            refine x_iload_n h dX3_orders_119 rfl ?_
            refine x_iload h dX3_orders_120 rfl ?_
            refine x_iast h (mlt hn rfl) rfl (vp_in_nI (by omega) (by first | decide | omega)) (i) (nI_clamp (by omega)) dX3_orders_122 (fun J122 eJ122 => ?_)
            refine x_aload_n h dX3_orders_123 rfl ?_
            refine x_iload_n h dX3_orders_124 rfl ?_
            refine x_iconst h dX3_orders_125 (1) rfl ?_
            refine x_iaddE h (nI (i + 1)) (nI_add i 1) dX3_orders_126 ?_
            refine x_iload_n h dX3_orders_127 rfl ?_
            refine x_iconst h dX3_orders_128 (1) rfl ?_
            refine x_iload h dX3_orders_129 rfl ?_
            refine x_ishl h dX3_orders_131 ?_
            refine x_iconst h dX3_orders_132 (-1) rfl ?_
            refine x_ixor h dX3_orders_133 ?_
            refine x_iand h dX3_orders_134 ?_
            refine x_eqi (nI u) eu ?_
            refine x_iload_n h dX3_orders_135 rfl ?_
            refine x_callVEv h (As := [.int _, .int _, .int _]) (IH l G n hn _ _ (i + 1) u o (by omega) (by omega) hu (by rw [eJ122]; exact hWJ.1.mv (up2_i _ _ (by decide)) (up2_i _ _ (by decide)) fun j _ _ => up2_i _ _ (by decide)) (by rw [eJ122]; exact hWJ.2.1.up rfl (fun z => by omega)) (by rw [eJ122]; exact tried_up hK ht8 (by omega)) ho) m_X3_300 (mlt hn rfl) rfl dX3_orders_136 ⟨by omega, by decide⟩ ⟨by decide, by decide⟩ rfl (Nat.le_of_ble_eq_true rfl) ?_
            refine x_nmI (fun J136 eJ136 => ?_)
            refine x_iinc h dX3_orders_139 (by decide) rfl (nI (k + 1)) (nI_1 k) [some (.ref (xb G + 70)), some (.int (nI i)), some (.int (nI t)), some (.int o), some (.int (nI (k + 1))), none] rfl ?_
            refine x_goto h 94 dX3_orders_142 rfl ?_
            exact ih (k + 1) J136 (by omega) (by omega) (by show _ = m_ordF o e i (nI t) k (itI (m_ordF o e i (nI t)) k I); rw [← hJ]; unfold m_ordF; first | (rw [eJ136, eJ122, if_neg c109, eu]; done) | (rw [if_pos c109]; done)) (by first | (rw [eJ136, eJ122]; exact hK.tr (ord_K e (i + 1) (nI u) _).at) | exact hK)
          · skip
            refine x_goto h 139 dX3_orders_112 rfl ?_
            refine x_iinc h dX3_orders_139 (by decide) rfl (nI (k + 1)) (nI_1 k) [some (.ref (xb G + 70)), some (.int (nI i)), some (.int (nI t)), some (.int o), some (.int (nI (k + 1))), none] rfl ?_
            refine x_goto h 94 dX3_orders_142 rfl ?_
            exact ih (k + 1) J (by omega) (by omega) (by show _ = m_ordF o e i (nI t) k (itI (m_ordF o e i (nI t)) k I); rw [← hJ]; unfold m_ordF; first | (rw [eJ136, eJ122, if_neg c109, eu]; done) | (rw [if_pos c109]; done)) (by first | (rw [eJ136, eJ122]; exact hK.tr (ord_K e (i + 1) (nI u) _).at) | exact hK)
    exact lp94 (b + 1) 0 I (by omega) (by omega) rfl ordK.rf
  · skip
    have hE : m_ord o (e + 1) i (nI t) I = m_ordL o i I := ord_0 c1
    refine x_aload_n h dX3_orders_4 rfl ?_
    refine x_iload_n h dX3_orders_5 rfl ?_
    refine x_puti h p_X3_257 (mlt hn rfl) rfl rfl rfl rfl dX3_orders_6 (fun J6 eJ6 => ?_)
    refine x_iconst h dX3_orders_9 (0) rfl ?_
    refine x_istore h dX3_orders_10 (by decide) [some (.ref (xb G + 70)), some (.int (nI i)), some (.int (nI t)), some (.int o), some (.int 0), none] rfl ?_
    have lp12 : ∀ (d : Nat) (k : Nat) (J : xI_T), i - k < d → (k ≤ i) → (J = cpy2 J6 96 0 100 0 k) → X Θ 0 0 n TyM J L FM 12 [some (.ref (xb G + 70)), some (.int (nI i)), some (.int (nI t)), some (.int o), some (.int (nI k)), none] [] := by
      intro d
      induction d with
      | zero =>
        intro k J hlt
        exact absurd hlt (Nat.not_lt_zero _)
      | succ d ih =>
        intro k J hlt hk hJ
        refine x_iload h dX3_orders_12 rfl ?_
        refine x_iload_n h dX3_orders_14 rfl ?_
        refine x_icmp_ge h 38 dX3_orders_15 rfl (fun c15 => ?_) (fun c15 => ?_)
        · skip
          have hki : k = i := Nat.le_antisymm hk (nleN rfl (by omega) (by omega) c15)
          have hR : J = ordR i I := by rw [hJ, hki, eJ6]; rfl
          refine x_aload_n h dX3_orders_38 rfl ?_
          refine x_iload_n h dX3_orders_39 rfl ?_
          refine x_callVEi h (As := [.int _]) (t_purseBehind l G n hn _ _ _ (by rw [hR]; exact ordR_W hM hW ht8 (by omega)) ho) m_X3_288 (mlt hn rfl) rfl dX3_orders_40 ⟨by omega, by decide⟩ ⟨by decide, by decide⟩ rfl (Nat.le_of_ble_eq_true rfl) ?_
          refine x_nmI (fun J40 eJ40 => ?_)
          refine x_nmi (fun v43 ev43 => ?_)
          refine x_istore h dX3_orders_43 (by decide) [some (.ref (xb G + 70)), some (.int (nI i)), some (.int (nI t)), some (.int o), some (.int v43), none] rfl ?_
          refine x_iload h dX3_orders_45 rfl ?_
          refine x_aload_n h dX3_orders_47 rfl ?_
          refine x_geti h g_X3_297 (mlt hn rfl) rfl rfl dX3_orders_48 ?_
          refine x_icmp_gt h 55 dX3_orders_51 rfl (fun c51 => ?_) (fun c51 => ?_)
          · skip
            have n51 := Int32.not_le.mpr c51
            refine x_aload_n h dX3_orders_55 rfl ?_
            refine x_iload h dX3_orders_56 rfl ?_
            refine x_puti h p_X3_297 (mlt hn rfl) rfl rfl rfl rfl dX3_orders_58 (fun J58 eJ58 => ?_)
            refine x_iconst h dX3_orders_61 (0) rfl ?_
            refine x_istore h dX3_orders_62 (by decide) [some (.ref (xb G + 70)), some (.int (nI i)), some (.int (nI t)), some (.int o), some (.int v43), some (.int 0)] rfl ?_
            have lp64 : ∀ (d : Nat) (k : Nat) (J : xI_T), i - k < d → (k ≤ i) → (J = cpy2 J58 101 0 100 0 k) → X Θ 0 0 n TyM J L FM 64 [some (.ref (xb G + 70)), some (.int (nI i)), some (.int (nI t)), some (.int o), some (.int v43), some (.int (nI k))] [] := by
              intro d
              induction d with
              | zero =>
                intro k J hlt
                exact absurd hlt (Nat.not_lt_zero _)
              | succ d ih =>
                intro k J hlt hk hJ2
                refine x_iload h dX3_orders_64 rfl ?_
                refine x_iload_n h dX3_orders_66 rfl ?_
                refine x_icmp_ge h 90 dX3_orders_67 rfl (fun c67 => ?_) (fun c67 => ?_)
                · skip
                  have hkx : k = i := Nat.le_antisymm hk (nleN rfl (by omega) (by omega) c67)
                  exact x_vret h dX3_orders_90 rfl (xpE.to rfl (by rw [hE]; show _ = if (m_pursB (ordR i I) o).1 ≤ (m_pursB (ordR i I) o).2 70 52 then _ else cpy2 (up2 (m_pursB (ordR i I) o).2 70 52 (m_pursB (ordR i I) o).1) 101 0 100 0 i; rw [← hR, ← eJ40, ← ev43, if_neg (Int32.not_le.mpr c51), hJ2, hkx, eJ58]) rfl rfl)
                · skip
                  have hkx : k < i := nltN rfl (by omega) (by omega) c67
                  refine x_aload_n h dX3_orders_70 rfl ?_
                  refine x_getr h (j := 101) g_X3_110 (mlt hn rfl) rfl (by decide) rfl dX3_orders_71 ?_
                  refine x_iload h dX3_orders_74 rfl ?_
                  refine x_aload_n h dX3_orders_76 rfl ?_
                  refine x_getr h (j := 100) g_X3_107 (mlt hn rfl) rfl (by decide) rfl dX3_orders_77 ?_
                  refine x_iload h dX3_orders_80 rfl ?_
                  refine x_iald h (mlt hn rfl) rfl (vp_in_nI (by omega) (by first | decide | omega)) (k) (nI_clamp (by omega)) dX3_orders_82 ?_
                  refine x_iast h (mlt hn rfl) rfl (vp_in_nI (by omega) (by first | decide | omega)) (k) (nI_clamp (by omega)) dX3_orders_83 (fun J83 eJ83 => ?_)
                  refine x_iinc h dX3_orders_84 (by decide) rfl (nI (k + 1)) (nI_1 k) [some (.ref (xb G + 70)), some (.int (nI i)), some (.int (nI t)), some (.int o), some (.int v43), some (.int (nI (k + 1)))] rfl ?_
                  refine x_goto h 64 dX3_orders_87 rfl ?_
                  exact ih (k + 1) J83 (by omega) (by omega) (by rw [eJ83, hJ2]; have z := cpy2_up (I := J58) (a := 101) (o := 0) (b := 100) (p := 0) (c := k) (Or.inl (by decide)); rw [Nat.zero_add] at z; exact z)
            exact lp64 (i + 1) 0 J58 (by omega) (by omega) cpy2_z.symm
          · skip
            have n51 := Int32.not_lt.mp c51
            exact x_vret h dX3_orders_54 rfl (xpE.to rfl (by rw [hE]; show _ = if (m_pursB (ordR i I) o).1 ≤ (m_pursB (ordR i I) o).2 70 52 then (m_pursB (ordR i I) o).2 else _; rw [← hR, ← eJ40, ← ev43, if_pos (Int32.not_lt.mp c51)]) rfl rfl)
        · skip
          have hki : k < i := nltN rfl (by omega) (by omega) c15
          refine x_aload_n h dX3_orders_18 rfl ?_
          refine x_getr h (j := 96) g_X3_95 (mlt hn rfl) rfl (by decide) rfl dX3_orders_19 ?_
          refine x_iload h dX3_orders_22 rfl ?_
          refine x_aload_n h dX3_orders_24 rfl ?_
          refine x_getr h (j := 100) g_X3_107 (mlt hn rfl) rfl (by decide) rfl dX3_orders_25 ?_
          refine x_iload h dX3_orders_28 rfl ?_
          refine x_iald h (mlt hn rfl) rfl (vp_in_nI (by omega) (by first | decide | omega)) (k) (nI_clamp (by omega)) dX3_orders_30 ?_
          refine x_iast h (mlt hn rfl) rfl (vp_in_nI (by omega) (by first | decide | omega)) (k) (nI_clamp (by omega)) dX3_orders_31 (fun J31 eJ31 => ?_)
          refine x_iinc h dX3_orders_32 (by decide) rfl (nI (k + 1)) (nI_1 k) [some (.ref (xb G + 70)), some (.int (nI i)), some (.int (nI t)), some (.int o), some (.int (nI (k + 1))), none] rfl ?_
          refine x_goto h 12 dX3_orders_35 rfl ?_
          exact ih (k + 1) J31 (by omega) (by omega) (by rw [eJ31, hJ]; have z := cpy2_up (I := J6) (a := 96) (o := 0) (b := 100) (p := 0) (c := k) (Or.inl (by decide)); rw [Nat.zero_add] at z; exact z)
    exact lp12 (i + 1) 0 J6 (by omega) (by omega) cpy2_z.symm
theorem t_ords : ∀ e : Nat, OrdP e
  | 0 => fun l G n hn I L i t o h1 h2 h3 h4 h5 h6 h7 => absurd h2 (Nat.not_lt_zero _)
  | e + 1 => fun l G n hn I L i t o h1 h2 h3 h4 h5 h6 h7 => t_ordS l G n hn I L e (t_ords e) i t o h1 h2 h3 h4 h5 h6 h7
set_option maxHeartbeats 4000000 in
theorem t_order (l : Launch) (G : xG_T) (n : Nat) (hn : 103 ≤ n) (I : xI_T) (L : xL_T) (s : Int32) (o : Int32) (k : Int32) (hT : Wtop I) : CM l 15 yX3_order cX3_order 4 (some .int) G n [.ref (xb G + 70), .int s, .int o, .int k] I L (some (.int ((m_order I s o k).1))) ((m_order I s o k).2) (L) := by
  refine Cg.intro (cls := RX3) (pad := 0) (lv := [some (.ref (xb G + 70)), some (.int s), some (.int o), some (.int k)]) rfl (by decide) (Nat.le_of_ble_eq_true rfl) rfl (fun Θ h => ?_)
  refine x_iload_n h dX3_order_0 rfl ?_
  refine x_iconst h dX3_order_1 (0) rfl ?_
  refine x_iconst h dX3_order_2 (1) rfl ?_
  refine x_aload_n h dX3_order_3 rfl ?_
  refine x_geti h g_X3_116 (mlt hn rfl) rfl rfl dX3_order_4 ?_
  refine x_ishl h dX3_order_7 ?_
  refine x_iconst h dX3_order_8 (1) rfl ?_
  refine x_isub h dX3_order_9 ?_
  refine x_callSEi h (As := [.int _, .int _, .int _]) (t_within l G n hn _ _ _ _ _ ) m_X3_119 dX3_order_10 ⟨by decide, by decide⟩ ⟨by decide, by decide⟩ rfl (Nat.le_of_ble_eq_true rfl) ?_
  refine x_if_eq h 29 dX3_order_13 rfl (fun c13 => ?_) (fun c13 => ?_)
  · skip
    refine x_iconst h dX3_order_29 (-1) rfl ?_
    exact x_iret h dX3_order_30 rfl (xpE.to (by subst_vars; first | with_reducible rfl | (simp only [m_order, *]; done) | (simp only [m_order, ix, *]; rfl) | (simp [m_order, ix, up2_ap, bec_k, bec_i, *]; done)) (by subst_vars; first | with_reducible rfl | (simp only [m_order, *]; done) | (simp only [m_order, ix, *]; rfl) | (simp [m_order, ix, up2_ap, bec_k, bec_i, *]; done)) rfl rfl)
  · skip
    refine x_aload_n h dX3_order_16 rfl ?_
    refine x_iload_n h dX3_order_17 rfl ?_
    refine x_callVEi h (As := [.int _]) (t_isBuyer l G n hn _ _ _ ) m_X3_137 (mlt hn rfl) rfl dX3_order_18 ⟨by decide, by decide⟩ ⟨by decide, by decide⟩ rfl (Nat.le_of_ble_eq_true rfl) ?_
    refine x_if_eq h 29 dX3_order_21 rfl (fun c21 => ?_) (fun c21 => ?_)
    · skip
      refine x_iconst h dX3_order_29 (-1) rfl ?_
      exact x_iret h dX3_order_30 rfl (xpE.to (by subst_vars; first | with_reducible rfl | (simp only [m_order, *]; done) | (simp only [m_order, ix, *]; rfl) | (simp [m_order, ix, up2_ap, bec_k, bec_i, *]; done)) (by subst_vars; first | with_reducible rfl | (simp only [m_order, *]; done) | (simp only [m_order, ix, *]; rfl) | (simp [m_order, ix, up2_ap, bec_k, bec_i, *]; done)) rfl rfl)
    · skip
      refine x_iload_n h dX3_order_24 rfl ?_
      refine x_iconst h dX3_order_25 (-1) rfl ?_
      refine x_icmp_ge h 31 dX3_order_26 rfl (fun c26 => ?_) (fun c26 => ?_)
      · skip
        have n26 := Int32.not_lt.mpr c26
        refine x_iload_n h dX3_order_31 rfl ?_
        refine x_callSEi h (As := [.int _]) (t_bitCount l G _ n _ _ _ _ _) m_X3_303 dX3_order_32 ⟨by decide, by decide⟩ ⟨by decide, by decide⟩ rfl (Nat.le_of_ble_eq_true rfl) ?_
        refine x_iconst h dX3_order_35 (5) rfl ?_
        refine x_icmp_le h 42 dX3_order_36 rfl (fun c36 => ?_) (fun c36 => ?_)
        · skip
          have n36 := Int32.not_lt.mpr c36
          refine x_iload_n h dX3_order_42 rfl ?_
          refine x_iload_n h dX3_order_43 rfl ?_
          refine x_callSEi h (As := [.int _]) (t_bitCount l G _ n _ _ _ _ _) m_X3_303 dX3_order_44 ⟨by decide, by decide⟩ ⟨by decide, by decide⟩ rfl (Nat.le_of_ble_eq_true rfl) ?_
          refine x_icmp_lt h 53 dX3_order_47 rfl (fun c47 => ?_) (fun c47 => ?_)
          · skip
            have n47 := Int32.not_le.mpr c47
            obtain ⟨b, hb9, hb⟩ : ∃ b : Nat, b < 9 ∧ I 70 0 = nI b := vp_in_of hT.1.1 (by decide)
            obtain ⟨t, ht, rfl⟩ := set_t hb9 (by rw [hb] at c13; exact c13)
            have hbc := bitc0 ⟨t, ht⟩
            have hp5 : pcn t ≤ 5 := by simp only at hbc; rw [hbc] at c36; exact (nI_leI (by simp only [pcn]; omega) (by decide)).mp c36
            have hB : m_order I (nI t) o k = m_orderB I t o k := by unfold m_order; rw [if_neg c13, if_neg c21, if_neg n26, if_neg n36, if_neg (Int32.not_le.mpr c47)]; rfl
            refine x_aload_n h dX3_order_53 rfl ?_
            refine x_iconst h dX3_order_54 (-1) rfl ?_
            refine x_puti h p_X3_297 (mlt hn rfl) rfl rfl rfl rfl dX3_order_55 (fun J55 eJ55 => ?_)
            refine x_aload_n h dX3_order_58 rfl ?_
            refine x_iconst h dX3_order_59 (0) rfl ?_
            refine x_iload_n h dX3_order_60 rfl ?_
            refine x_iload_n h dX3_order_61 rfl ?_
            refine x_callVEv h (As := [.int _, .int _, .int _]) (t_ords 6 l G n hn _ _ 0 t o (by omega) (by omega) ht (by rw [eJ55]; exact hT.1.mv (up2_k _ _ (by decide)) (up2_k _ _ (by decide)) fun j _ _ => up2_i _ _ (by decide)) (by rw [eJ55]; exact hT.2.up rfl (by decide)) (fun j hj => absurd hj (Nat.not_lt_zero _)) (isB_in hT.1.1 c21)) m_X3_300 (mlt hn rfl) rfl dX3_order_62 ⟨by decide, by decide⟩ ⟨by decide, by decide⟩ rfl (Nat.le_of_ble_eq_true rfl) ?_
            refine x_nmI (fun J62 eJ62 => ?_)
            refine x_iload_n h dX3_order_65 rfl ?_
            refine x_iconst h dX3_order_66 (-1) rfl ?_
            refine x_icmp_ne h 77 dX3_order_67 rfl (fun c67 => ?_) (fun c67 => ?_)
            · skip
              refine x_aload_n h dX3_order_77 rfl ?_
              refine x_getr h (j := 101) g_X3_110 (mlt hn rfl) rfl (by decide) rfl dX3_order_78 ?_
              refine x_iload_n h dX3_order_81 rfl ?_
              refine x_iald h (mlt hn rfl) rfl (ord_k c26 (by simp only at hbc; rw [← hbc]; exact c47) c67 hp5) _ rfl dX3_order_82 ?_
              exact x_iret h dX3_order_83 rfl (xpE.to (by rw [hB]; unfold m_orderB; rw [← eJ55, ← eJ62]; first | (simp only [if_neg c67]; done) | (simp only [if_pos c67]; done)) (by rw [hB]; unfold m_orderB; rw [← eJ55]; exact eJ62) rfl rfl)
            · skip
              refine x_aload_n h dX3_order_70 rfl ?_
              refine x_geti h g_X3_297 (mlt hn rfl) rfl rfl dX3_order_71 ?_
              refine x_goto h 83 dX3_order_74 rfl ?_
              exact x_iret h dX3_order_83 rfl (xpE.to (by rw [hB]; unfold m_orderB; rw [← eJ55, ← eJ62]; first | (simp only [if_neg c67]; done) | (simp only [if_pos c67]; done)) (by rw [hB]; unfold m_orderB; rw [← eJ55]; exact eJ62) rfl rfl)
          · skip
            have n47 := Int32.not_lt.mp c47
            refine x_bipush h dX3_order_50 (-2) rfl ?_
            exact x_iret h dX3_order_52 rfl (xpE.to (by subst_vars; first | with_reducible rfl | (simp only [m_order, *]; done) | (simp only [m_order, ix, *]; rfl) | (simp [m_order, ix, up2_ap, bec_k, bec_i, *]; done)) (by subst_vars; first | with_reducible rfl | (simp only [m_order, *]; done) | (simp only [m_order, ix, *]; rfl) | (simp [m_order, ix, up2_ap, bec_k, bec_i, *]; done)) rfl rfl)
        · skip
          have n36 := Int32.not_le.mp c36
          refine x_bipush h dX3_order_39 (-5) rfl ?_
          exact x_iret h dX3_order_41 rfl (xpE.to (by subst_vars; first | with_reducible rfl | (simp only [m_order, *]; done) | (simp only [m_order, ix, *]; rfl) | (simp [m_order, ix, up2_ap, bec_k, bec_i, *]; done)) (by subst_vars; first | with_reducible rfl | (simp only [m_order, *]; done) | (simp only [m_order, ix, *]; rfl) | (simp [m_order, ix, up2_ap, bec_k, bec_i, *]; done)) rfl rfl)
      · skip
        have n26 := Int32.not_le.mp c26
        refine x_iconst h dX3_order_29 (-1) rfl ?_
        exact x_iret h dX3_order_30 rfl (xpE.to (by subst_vars; first | with_reducible rfl | (simp only [m_order, *]; done) | (simp only [m_order, ix, *]; rfl) | (simp [m_order, ix, up2_ap, bec_k, bec_i, *]; done)) (by subst_vars; first | with_reducible rfl | (simp only [m_order, *]; done) | (simp only [m_order, ix, *]; rfl) | (simp [m_order, ix, up2_ap, bec_k, bec_i, *]; done)) rfl rfl)
