/-! BODIES on shelves -/
def udr (K : Nat) (k : Int32) : Int32 := match K with
  | 0 => if k = 0 then 1 else 0
  | 1 => if k = 1 then 1 else if k = 0 then 1 else 0
  | 2 => if k = 2 then 1 else if k = 0 then 1 else 0
  | 3 => if k = 3 then 1 else if k = 2 then 1 else if k = 0 then 1 else 0
  | 4 => if k = 4 then 1 else if k = 1 then 1 else if k = 0 then 1 else 0
  | 5 => if k = 5 then 1 else if k = 3 then 1 else if k = 2 then 1 else if k = 0 then 1 else 0
  | 6 => if k = 6 then 1 else if k = 0 then 1 else 0
  | _ => if k = 7 then 1 else if k = 4 then 1 else if k = 1 then 1 else if k = 0 then 1 else 0
theorem udr_01 (K : Nat) (k : Int32) : udr K k = 0 ∨ udr K k = 1 := by
  unfold udr
  repeat' split
  all_goals first | exact Or.inl rfl | exact Or.inr rfl
theorem udr_up : ∀ K : Nat, K < 8 → ∀ k : Nat, k < 8 → (¬ udr K (nI k) = 0 ↔ m_up (nI k) 8 (nI K) = nI k) := by decide +kernel
/-- the class of a row is no body -/
theorem nolatch {t : Nat} (h : t < 5) : ∃ (C : String) (T : u_T) (M : Nat), xcl[24 + t]? = some (C, T, M) ∧ (C, "ThirdAfter$Latch") ∈ xpairs := by
  have z : t = 0 ∨ t = 1 ∨ t = 2 ∨ t = 3 ∨ t = 4 := by omega
  rcases z with rfl | rfl | rfl | rfl | rfl
  all_goals exact ⟨_, _, _, rfl, by decide +kernel⟩
theorem held_c {c : Nat} (h : c ≤ 7) : ∃ (C : String) (T : u_T) (M : Nat), xcl[15 + c]? = some (C, T, M) ∧ Cond.castable C "ThirdAfter$Held" ∈ lw_tbl := by
  have z : c = 0 ∨ c = 1 ∨ c = 2 ∨ c = 3 ∨ c = 4 ∨ c = 5 ∨ c = 6 ∨ c = 7 := by omega
  rcases z with rfl | rfl | rfl | rfl | rfl | rfl | rfl | rfl
  all_goals exact ⟨_, _, _, rfl, by decide +kernel⟩
def shB (n : Nat) (Ty : Nat → xs_T) (F : xF_T) (J : xI_T) (s c : Nat) : Prop := ∃ q b : Nat, F 33 s = some q ∧ q < n ∧ Ty q = some (.inl (15 + c)) ∧ b < 50 ∧ J 90 s = nI (10 + b) ∧ J 88 b = nI c
theorem TOP.bodies {n : Nat} {Ty : Nat → xs_T} {I : xI_T} {L : xL_T} {F : xF_T} {J : xI_T} {M : xL_T} {s : Nat} (h : TOP n Ty I L F J M) (hs : s < 6) : (F 33 s = none ∧ J 90 s = -1) ∨ (∃ q t : Nat, F 33 s = some q ∧ q < n ∧ Ty q = some (.inl (24 + t)) ∧ t < 5 ∧ J 90 s = nI t) ∨ shB n Ty F J s 0 ∨ shB n Ty F J s 1 ∨ shB n Ty F J s 2 ∨ shB n Ty F J s 3 ∨ shB n Ty F J s 4 ∨ shB n Ty F J s 5 ∨ shB n Ty F J s 6 ∨ shB n Ty F J s 7 := by
  have ⟨tC, tNU, tNO, tBY, tKL, tWW, tRB, tBU, tCH, tTA, tLE, tIM, tBO, tTR, tSH, tFR⟩ := h
  rcases tSH.1 s hs with g | ⟨q, t, a, z, ⟨h1, h2, h3, h4, h5⟩, h6, -⟩ | ⟨q, b, c, ⟨h1, h2, h3, h4, h5, h6⟩, h7, h8⟩
  · exact Or.inl g
  · exact Or.inr (Or.inl ⟨q, t, h1, h3, h5, h4, h6⟩)
  · have hb := tSH.2.2.2 s b hs h7 h8
    obtain ⟨m, ⟨m1, m2, m3⟩, hm, -⟩ := tBO
    rw [m2, ix_n (by omega)] at hb
    obtain ⟨q2, c2, y1, y2, y3, y4, y5, y6, y7⟩ := hm b hb
    have e := Option.some.inj (y1.symm.trans h2)
    subst e
    have ec : c2 = c := by
      rw [h6] at y4
      injection y4 with y8
      injection y8 with y9
      omega
    subst ec
    have k : shB n Ty F J s c2 := ⟨q2, b, h1, h4, h6, h7, h8, y5⟩
    have z : c2 = 0 ∨ c2 = 1 ∨ c2 = 2 ∨ c2 = 3 ∨ c2 = 4 ∨ c2 = 5 ∨ c2 = 6 ∨ c2 = 7 := by omega
    rcases z with rfl | rfl | rfl | rfl | rfl | rfl | rfl | rfl
    · exact Or.inr (Or.inr (Or.inl k))
    · exact Or.inr (Or.inr (Or.inr (Or.inl k)))
    · exact Or.inr (Or.inr (Or.inr (Or.inr (Or.inl k))))
    · exact Or.inr (Or.inr (Or.inr (Or.inr (Or.inr (Or.inl k)))))
    · exact Or.inr (Or.inr (Or.inr (Or.inr (Or.inr (Or.inr (Or.inl k))))))
    · exact Or.inr (Or.inr (Or.inr (Or.inr (Or.inr (Or.inr (Or.inr (Or.inl k)))))))
    · exact Or.inr (Or.inr (Or.inr (Or.inr (Or.inr (Or.inr (Or.inr (Or.inr (Or.inl k))))))))
    · exact Or.inr (Or.inr (Or.inr (Or.inr (Or.inr (Or.inr (Or.inr (Or.inr (Or.inr k))))))))
theorem taken_b {J : xI_T} {s b c : Nat} {k : Int32} (hs : s < 6) (h0 : ¬ inR (nI s) 0 5 = 0) (h : ¬ inR k 0 7 = 0) (hb : b < 50) (h90 : J 90 s = nI (10 + b)) (h88 : J 88 b = nI c) (hc : c < 8) : m_taken J (nI s) k = if udr c k = 0 then -12 else nI c := by
  obtain ⟨x, -, hx, rfl⟩ := inR_nat 0 7 h rfl rfl (by decide)
  have e9 : ix (J 90 (ix (nI s)) - 10) = b := by
    rw [ix_n (by omega), h90, show (10 : Int32) = nI 10 from rfl, pk_sub (by omega), ix_n (by omega)]
    omega
  unfold m_taken
  rw [if_neg h0, if_neg h, e9, ix_n (show s < 2147483648 by omega), h90, if_neg (nI_m9 (by omega)), if_neg (fun y => y (Classical.byContradiction fun z => by have := (isRow_t hs h90 (by omega)).mp z; omega)), h88]
  by_cases hu : udr c (nI x) = 0
  · rw [if_pos hu, if_neg (fun y => (udr_up c hc x (by omega)).mpr y hu)]
  · rw [if_neg hu, if_pos ((udr_up c hc x (by omega)).mp hu)]
/-- a body or nothing kept on a shelf, on both sides -/
theorem TOP.keep {n : Nat} {Ty : Nat → xs_T} {I : xI_T} {L : xL_T} {F : xF_T} {J : xI_T} {M : xL_T} {s : Nat} {o : Option Nat} {w : Int32} (h : TOP n Ty I L F J M) (hs : s < 6) (hv : (o = none ∧ w = -1) ∨ ∃ q b c : Nat, o = some q ∧ F 32 b = some q ∧ (103 ≤ q ∧ q < n) ∧ c ≤ 7 ∧ Ty q = some (.inl (15 + c)) ∧ b < 50 ∧ b < ix (J 70 31) ∧ w = nI (10 + b)) : TOP n Ty I L (up2 F 33 s o) (up2 (up2 J 90 s w) 91 s 0) M := by
  obtain ⟨a1, a2, a3, a4, a5, a6, a7, a8, a9, b1, b2, b3, b4, b5, b6, b7⟩ := h
  have hn3 : 103 ≤ n := a1.1
  have hJ : ∀ c k : Nat, c ≠ 90 → c ≠ 91 → up2 (up2 J 90 s w) 91 s 0 c k = J c k := fun c k z1 z2 => by rw [up2_i _ _ z2, up2_i _ _ z1]
  have hF : ∀ c k : Nat, ¬ (c = 33 ∧ k = s) → up2 F 33 s o c k = F c k := fun c k z => up2_n _ _ z
  have df : dynF n F (up2 F 33 s o) := fun c k z1 z2 => hF c k (by omega)
  have dI : dynI n Ty I I := fun _ _ _ _ _ _ _ => rfl
  have e90 : up2 (up2 J 90 s w) 91 s 0 90 s = w := by rw [up2_i _ _ (by decide), up2_s]
  have ek : ∀ c k : Nat, k ≠ s → up2 (up2 J 90 s w) 91 s 0 c k = J c k := fun c k y => by rw [up2_n _ _ (by omega), up2_n _ _ (by omega)]
  refine ⟨a1.up (by omega), a2.w (fun _ _ _ => rfl) (fun c k _ => hJ c k (by omega) (by omega)), a3.w a6 (fun _ _ _ => rfl) (fun c k _ => hJ c k (by omega) (by omega)), a4.w a6 grw.rf (fun _ _ _ _ _ => rfl) (fun k _ => hF 1 k (by omega)) (fun c k _ => hJ c k (by omega) (by omega)), a5.w grw.rf dI df (hF 0 10 (by omega)) (fun c k _ => hJ c k (by omega) (by omega)), a6.w (fun c k _ => hJ c k (by omega) (by omega)), a7.w (fun _ => rfl) (fun k => hJ 101 k (by omega) (by omega)), a8.w (fun k _ => hF 1 k (by omega)) (hJ 70 0 (by omega) (by omega)), a9.w grw.rf dI ⟨rfl, rfl⟩ (fun k => hF 2 k (by omega)) (fun c k _ => hJ c k (by omega) (by omega)), b1.w (fun _ _ _ => rfl) (fun c k _ => hJ c k (by omega) (by omega)), b2.w (fun _ _ _ => rfl) (fun k => hJ 84 k (by omega) (by omega)), b3.w (fun _ _ _ => rfl) (fun c k _ => hJ c k (by omega) (by omega)) (by rw [hJ 70 0 (by omega) (by omega)]; exact Nat.le_refl _), b4.w grw.rf dI df rfl (fun k => hF 32 k (by omega)) (fun c k _ => hJ c k (by omega) (by omega)), b5.w (fun _ _ _ => rfl) (fun c k _ => hJ c k (by omega) (by omega)), ?_, b7.w (fun _ => rfl) (fun c k _ => hJ c k (by omega) (by omega))⟩
  obtain ⟨c1, c2, c3, c4⟩ := b6
  have nor : ∀ x : Nat, ¬ rowA n Ty (up2 F 33 s o) s x := fun x r => by
    obtain ⟨q2, k2, y1, y2, y3, y4, y5⟩ := r
    rw [up2_s] at y1
    rcases hv with ⟨v1, -⟩ | ⟨q, b, c, v1, v2, v3, v4, v5, -⟩
    · rw [v1] at y1; cases y1
    · rw [v1] at y1
      have e := Option.some.inj y1
      subst e
      rw [v5] at y4
      injection y4 with y8
      injection y8 with y9
      omega
  have oldr : ∀ s' x : Nat, s' ≠ s → rowA n Ty (up2 F 33 s o) s' x → rowA n Ty F s' x := fun s' x e r => by
    obtain ⟨q2, k2, y1, y2, y3, y4, y5⟩ := r
    by_cases e2 : q2 = 33
    · exfalso
      have y6 := a1.2.1 33 _ rfl
      rw [e2, y6] at y4
      injection y4 with y8
      cases y8
    · exact ⟨q2, k2, (hF 33 s' (by omega)).symm.trans y1, y2, y3, y4, (hF q2 0 (by omega)).symm.trans y5⟩
  refine ⟨fun s' hs' => ?_, c2.row (z := 0) (by decide), fun s1 s2 x hs1 hs2 hne r1 r2 => ?_, fun s' b hs' hb e => ?_⟩
  · by_cases e : s' = s
    · subst e
      rcases hv with ⟨v1, v2⟩ | ⟨q, b, c, v1, v2, v3, v4, v5, v6, v7, v8⟩
      · exact Or.inl ⟨by rw [up2_s]; exact v1, by rw [e90]; exact v2⟩
      · exact Or.inr (Or.inr ⟨q, b, c, ⟨by rw [up2_s]; exact v1, (hF 32 b (by omega)).trans v2, v3.1, v3.2, v4, v5⟩, v6, by rw [e90]; exact v8⟩)
    · have hFk : up2 F 33 s o 33 s' = F 33 s' := hF 33 s' (by omega)
      rcases c1 s' hs' with g | ⟨q2, t2, a2', z2, ⟨g1, g2, g3, g4, g5⟩, g6, ⟨g7, g8, g9, g10, g11, g12⟩, g13⟩ | ⟨q2, b2', c2', ⟨g1, g2, g3, g4, g5, g6⟩, g7, g8⟩
      · exact Or.inl ⟨hFk.trans g.1, by rw [ek _ _ e]; exact g.2⟩
      · exact Or.inr (Or.inl ⟨q2, t2, a2', z2, ⟨hFk.trans g1, g2, g3, g4, g5⟩, by rw [ek _ _ e]; exact g6, ⟨(hF q2 0 (by omega)).trans g7, g8, g9, g10, by rw [ek _ _ e]; exact g11, g12⟩, g13⟩)
      · exact Or.inr (Or.inr ⟨q2, b2', c2', ⟨hFk.trans g1, (hF 32 b2' (by omega)).trans g2, g3, g4, g5, g6⟩, g7, by rw [ek _ _ e]; exact g8⟩)
  · by_cases e1 : s1 = s
    · exact nor x (by rw [← e1]; rw [← e1] at r1; exact r1)
    · by_cases e2 : s2 = s
      · exact nor x (by rw [← e2]; rw [← e2] at r2; exact r2)
      · exact c3 s1 s2 x hs1 hs2 hne (oldr s1 x e1 r1) (oldr s2 x e2 r2)
  · rw [hJ 70 31 (by omega) (by omega)]
    by_cases es : s' = s
    · rw [es, e90] at e
      rcases hv with ⟨-, v2⟩ | ⟨q, b', c, v1, v2, v3, v4, v5, v6, v7, v8⟩
      · exact absurd (v2.symm.trans e).symm (nI_m9 (by omega))
      · have := congrArg ix (v8.symm.trans e)
        rw [ix_n (by omega), ix_n (by omega)] at this
        omega
    · rw [ek _ _ es] at e
      exact c4 s' b hs' hb e
theorem m1_i {m : Nat} (hm : m ≤ 50) : (nI m - 1).toInt = (m : Int) - 1 := by
  rw [i_sub (by rw [nI_toInt (by omega), show (1 : Int32).toInt = 1 from rfl]; omega) (by rw [nI_toInt (by omega), show (1 : Int32).toInt = 1 from rfl]; omega), nI_toInt (by omega), show (1 : Int32).toInt = 1 from rfl]
theorem keep_m {m : Nat} (hm : m ≤ 50) : ¬ inR (-1) (-1) (nI m - 1) = 0 := by
  rw [inR_n, i_lt, i_lt, m1_i hm, show (-1 : Int32).toInt = -1 from rfl]
  omega
theorem keep_0 {m : Nat} {b x y : Int32} (hm : m ≤ 50) (hy : y = nI m) (hx : x = nI m) (h : ¬ b = -1) (c : inR b 0 (x - 1) = 0) : inR b (-1) (y - 1) = 0 := by
  rw [hy]
  rw [hx] at c
  refine Classical.byContradiction fun z => ?_
  rw [inR_n, i_lt, i_lt, m1_i hm, show (-1 : Int32).toInt = -1 from rfl] at z
  refine absurd c (inR_n.mpr ?_)
  rw [i_lt, i_lt, m1_i hm, show (0 : Int32).toInt = 0 from rfl]
  rw [i_eq, show (-1 : Int32).toInt = -1 from rfl] at h
  omega
theorem keep_1 {m : Nat} {b x y : Int32} (hm : m ≤ 50) (hy : y = nI m) (hx : x = nI m) (c : ¬ inR b 0 (x - 1) = 0) : ∃ k : Nat, k < m ∧ b = nI k ∧ ¬ inR b (-1) (y - 1) = 0 := by
  rw [hy]
  rw [hx, inR_n, i_lt, i_lt, m1_i hm, show (0 : Int32).toInt = 0 from rfl] at c
  refine ⟨b.toInt.toNat, by omega, ?_, ?_⟩
  · rw [i_eq, nI_toInt (by omega)]
    omega
  · rw [inR_n, i_lt, i_lt, m1_i hm, show (-1 : Int32).toInt = -1 from rfl]
    omega
