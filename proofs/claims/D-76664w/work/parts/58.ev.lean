/-! THE LAW's values: trees and codes -/
theorem ev1_num {nm : Nat → Int32} {v : Nat} {s : List Int32} (h : v ≤ 9999) : ev1 nm (nI (18 + v)) s = nI v :: s := by
  unfold ev1
  rw [if_pos (show (18 : Int32) ≤ nI (18 + v) from nI_le (a := 18) (by omega) (by omega))]
  congr 1
  exact (pk_sub (a := 18 + v) (b := 18) (by omega)).trans (by rw [show 18 + v - 18 = v by omega])
def nmL (nm : Nat → Int32) (x : Int32) : Int32 := nm (ix (ltc x))
theorem ev1_name {nm : Nat → Int32} {x : Int32} {s : List Int32} (h : okl x) : ev1 nm (ltc x) s = nmL nm x :: s := by
  unfold nmL
  rcases h with h | h | h | h | h | h
  all_goals
    subst h
    rfl
theorem ev1_not {nm : Nat → Int32} {v : Int32} {s : List Int32} : ev1 nm 16 (v :: s) = (if v = 0 then 1 else 0) :: s := rfl
theorem ev1_neg {nm : Nat → Int32} {v : Int32} {s : List Int32} : ev1 nm 17 (v :: s) = (-v) :: s := rfl
theorem ev1_two {nm : Nat → Int32} {x y c : Int32} {s : List Int32} (h : oks c) : ev1 nm (sgc c) (y :: x :: s) = m_both (sgc c) x y :: s := by
  rcases h with h | h | h | h | h | h | h | h | h | h
  all_goals
    subst h
    rfl
theorem node_ev {n : Nat} {Ty : Nat → xs_T} {I : xI_T} {F : xF_T} (nm : Nat → Int32) : ∀ (d q : Nat) (c : List Int32), nodeIs n Ty I F d q c → ∃ v : Int32, ∀ s : List Int32, evs nm c s = v :: s
  | 0, _, _, h => h.elim
  | d + 1, q, c, ⟨_, _, h⟩ => by
    rcases h with ⟨_, v, hv, _, rfl⟩ | ⟨_, h1, rfl⟩ | ⟨_, r, e, _, h2, rfl⟩ | ⟨_, r, e, _, h2, rfl⟩ | ⟨_, h0, r1, r2, e1, e2, _, _, h3, h4, rfl⟩
    · exact ⟨nI v, fun s => ev1_num hv⟩
    · exact ⟨_, fun s => ev1_name h1⟩
    · obtain ⟨v, hv⟩ := node_ev nm d r e h2
      exact ⟨_, fun s => by rw [evs_app, hv]; exact ev1_not (nm := nm)⟩
    · obtain ⟨v, hv⟩ := node_ev nm d r e h2
      exact ⟨_, fun s => by rw [evs_app, hv]; exact ev1_neg (nm := nm)⟩
    · obtain ⟨v, hv⟩ := node_ev nm d r1 e1 h3
      obtain ⟨w, hw⟩ := node_ev nm d r2 e2 h4
      exact ⟨_, fun s => by rw [evs_app, evs_app, hv, hw]; exact ev1_two h0⟩
/-- names laid for the tree -/
def NM (I : xI_T) (nm : Nat → Int32) : Prop := I 5 119 = nm 0 ∧ I 5 112 = nm 1 ∧ I 5 104 = nm 2 ∧ I 5 110 = nm 3 ∧ I 5 111 = nm 4 ∧ I 5 100 = nm 5
theorem NM.at {I : xI_T} {nm : Nat → Int32} (h : NM I nm) {x : Int32} (hx : okl x) : I 5 (ix x) = nmL nm x := by
  obtain ⟨a, b, c, d, e, f⟩ := h
  rcases hx with hx | hx | hx | hx | hx | hx
  · subst hx; exact a
  · subst hx; exact b
  · subst hx; exact c
  · subst hx; exact d
  · subst hx; exact e
  · subst hx; exact f
theorem okl_in {x : Int32} (h : okl x) : vp_in x 128 := by
  rcases h with h | h | h | h | h | h
  all_goals
    subst h
    exact xk rfl
theorem rev_g {v : Int32} {t : List Int32} {i : Nat} : (v :: t).reverse.getD i 0 = if i = t.length then v else t.reverse.getD i 0 := by
  rw [List.reverse_cons, List.getD_eq_getElem?_getD, List.getD_eq_getElem?_getD]
  by_cases h : i < t.reverse.length
  · rw [List.getElem?_append_left h, if_neg (by rw [List.length_reverse] at h; omega)]
  · rw [List.getElem?_append_right (Nat.not_lt.mp h), List.length_reverse]
    rw [List.length_reverse] at h
    by_cases h2 : i = t.length
    · rw [if_pos h2, h2, Nat.sub_self]
      rfl
    · rw [if_neg h2, List.getElem?_eq_none (by simp; omega), List.getElem?_eq_none (by simp; omega)]
/-- the stack's cells hold the list -/
def stk (K : xI_T) (t : List Int32) : Prop := ∀ i : Nat, i < t.length → K 82 i = t.reverse.getD i 0
theorem stk.push {K : xI_T} {t : List Int32} {v : Int32} (h : stk K t) : stk (up2 K 82 t.length v) (v :: t) := fun i hi => by
  rw [rev_g]
  by_cases e : i = t.length
  · rw [if_pos e, e, up2_s]
  · rw [if_neg e, up2_k _ _ e]
    exact h i (by simp at hi; omega)
theorem stk.top {K : xI_T} {t : List Int32} {v : Int32} (h : stk K (v :: t)) : K 82 t.length = v := by
  rw [h t.length (by simp), rev_g, if_pos rfl]
theorem stk.pop {K : xI_T} {t : List Int32} {v : Int32} (h : stk K (v :: t)) : stk K t := fun i hi => by
  rw [h i (by simp; omega), rev_g, if_neg (by omega)]
/-- the reference's stack machine is the list's -/
theorem mrun_evs {J : xI_T} {f : Nat} : ∀ k : Nat, cok J f k → ∀ s : List Int32, s = evs (J 83) ((List.range k).map (fun j => J 77 (f + j))) [] → (m_run f k (J, 0)).2 = s.length ∧ stk (m_run f k (J, 0)).1 s
  | 0, _, s, h => by
    subst h
    exact ⟨rfl, fun i hi => absurd hi (Nat.not_lt_zero _)⟩
  | k + 1, hc, s, h => by
    have hc' : cok J f k := fun j hj => hc j (by omega)
    obtain ⟨h1, h2⟩ := mrun_evs k hc' _ rfl
    rw [List.range_succ, List.map_append, evs_app] at h
    generalize evs (J 83) ((List.range k).map (fun j => J 77 (f + j))) [] = t at h h1 h2
    obtain ⟨g0, g1, g2⟩ := hc k (Nat.lt_succ_self k)
    have hd : cdep J f k = t.length := by rw [← mrun_d k]; exact h1
    rw [hd] at g1 g2
    have hs : s = ev1 (J 83) (J 77 (f + k)) t := h
    have hr : m_run f (k + 1) (J, 0) = m_step (m_run f k (J, 0)).1 ((m_run f k (J, 0)).1 77 (f + k)) (m_run f k (J, 0)).2 := rfl
    rw [hr, mrun_o k (by decide), h1]
    have o83 : ∀ j : Nat, (m_run f k (J, 0)).1 83 j = J 83 j := fun j => mrun_o k (by decide)
    generalize (m_run f k (J, 0)).1 = K at h2 o83
    generalize J 77 (f + k) = c at hs g0 g1 g2
    subst hs
    unfold m_step ev1
    by_cases c1 : 18 ≤ c
    · rw [if_pos c1, if_pos c1]
      exact ⟨rfl, h2.push⟩
    · rw [if_neg c1, if_neg c1]
      by_cases c2 : 5 < c
      · rw [if_pos c2, if_pos c2]
        by_cases c3 : c = 16
        · rw [if_pos c3, if_pos c3]
          have g := g1 (Or.inl c3)
          match t, g, h2 with
          | x :: t, _, h2 =>
            refine ⟨rfl, ?_⟩
            show stk (up2 K 82 t.length (if K 82 t.length = 0 then 1 else 0)) _
            rw [h2.top]
            exact h2.pop.push
        · rw [if_neg c3, if_neg c3]
          by_cases c4 : c = 17
          · rw [if_pos c4, if_pos c4]
            have g := g1 (Or.inr c4)
            match t, g, h2 with
            | x :: t, _, h2 =>
              refine ⟨rfl, ?_⟩
              show stk (up2 K 82 t.length (-K 82 t.length)) _
              rw [h2.top]
              exact h2.pop.push
          · rw [if_neg c4, if_neg c4]
            have g := g2 ⟨c1, c2, c3, c4⟩
            match t, g, h2 with
            | y :: x :: t, _, h2 =>
              refine ⟨rfl, ?_⟩
              show stk (up2 K 82 t.length (m_both c (K 82 t.length) (K 82 (t.length + 1)))) _
              rw [h2.pop.top, show K 82 (t.length + 1) = y from h2.top]
              exact h2.pop.pop.push
      · rw [if_neg c2, if_neg c2]
        refine ⟨rfl, ?_⟩
        show stk (up2 K 82 t.length (K 83 (ix c))) _
        rw [o83]
        exact h2.push
theorem mwork_v {J : xI_T} {a b : Nat} {v : Int32} (hc : cok J a (b - a)) (hv : evs (J 83) (cds J a b) [] = [v]) : m_work J a b 82 0 = v := by
  obtain ⟨h1, h2⟩ := mrun_evs (b - a) hc _ rfl
  have e : (List.range (b - a)).map (fun j => J 77 (a + j)) = cds J a b := rfl
  rw [e, hv] at h2
  exact h2.top
theorem mwork_83 {J : xI_T} {a b j : Nat} : m_work J a b 83 j = J 83 j := mwork_o (by decide)
theorem div_m1 (x : Int32) : x / (-1) = -x := by
  apply Int32.toInt_inj.mp
  rw [Int32.toInt_div, show (-1 : Int32).toInt = -1 from rfl, Int.tdiv_neg, Int.tdiv_one, Int32.toInt_neg]
theorem b43 (x y : Int32) : m_both (sgc 43) x y = x + y := rfl
theorem b45 (x y : Int32) : m_both (sgc 45) x y = x - y := rfl
theorem b42 (x y : Int32) : m_both (sgc 42) x y = x * y := rfl
theorem b47 (x y : Int32) : m_both (sgc 47) x y = if y = 0 then 0 else if y = -1 then -x else x / y := by
  show (if y = 0 then 0 else x / y) = _
  by_cases h : y = 0
  · rw [if_pos h, if_pos h]
  · rw [if_neg h, if_neg h]
    by_cases h1 : y = -1
    · rw [if_pos h1, h1, div_m1]
    · rw [if_neg h1]
theorem b37 (x y : Int32) : m_both (sgc 37) x y = if y = 0 then 0 else if y = -1 then 0 else x - x / y * y := by
  show (if y = 0 then 0 else x - x / y * y) = _
  by_cases h : y = 0
  · rw [if_pos h, if_pos h]
  · rw [if_neg h, if_neg h]
    by_cases h1 : y = -1
    · rw [if_pos h1, h1, div_m1, Int32.mul_neg, Int32.neg_mul, Int32.neg_neg, Int32.mul_one, Int32.sub_self]
    · rw [if_neg h1]
theorem b60 (x y : Int32) : m_both (sgc 60) x y = if x < y then 1 else 0 := rfl
theorem b61 (x y : Int32) : m_both (sgc 61) x y = if x = y then 1 else 0 := rfl
theorem b62 (x y : Int32) : m_both (sgc 62) x y = if y < x then 1 else 0 := rfl
theorem b38 (x y : Int32) : m_both (sgc 38) x y = if x = 0 then 0 else if y = 0 then 0 else 1 := rfl
theorem b124 (x y : Int32) : m_both (sgc 124) x y = if ¬ x = 0 then 1 else if ¬ y = 0 then 1 else 0 := rfl
theorem oks_or {x : Int32} (h : oks x) (h1 : ¬ x = 37) (h2 : ¬ x = 38) (h3 : ¬ x = 42) (h4 : ¬ x = 43) (h5 : ¬ x = 45) (h6 : ¬ x = 47) (h7 : ¬ x = 60) (h8 : ¬ x = 61) (h9 : ¬ x = 62) : x = 124 := by
  rcases h with h | h | h | h | h | h | h | h | h | h
  · exact absurd h h4
  · exact absurd h h5
  · exact absurd h h3
  · exact absurd h h6
  · exact absurd h h1
  · exact absurd h h7
  · exact absurd h h8
  · exact absurd h h9
  · exact absurd h h2
  · exact h
