/-! MIRRORS OF THE REFERENCE, third part: buyers off a row, images, acts, shelves -/
-- buyers off a row
theorem buyGo_0 {L : xL_T} {s i z : Int32} {d k : Nat} {I : xI_T} (h : z ≤ nI k) : m_buyGo L s i z (d + 1) k I = (nI k, I) := by
  unfold m_buyGo
  rw [if_pos h]
theorem buyGo_1 {L : xL_T} {s i z : Int32} {d k : Nat} {I : xI_T} {f : Int64} (h : ¬ z ≤ nI k) (hf : f = i.toInt64 + 3 * (nI k).toInt64) (h2 : f < 0 ∨ (I 91 (ix s)).toInt64 < f + 3 ∨ I 70 0 = 8) : m_buyGo L s i z (d + 1) k I = (nI k, I) := by
  subst hf
  unfold m_buyGo
  rw [if_neg h]
  exact if_pos h2
theorem buyGo_2 {L : xL_T} {s i z : Int32} {d k : Nat} {I : xI_T} {f : Int64} {p : Int32} (h : ¬ z ≤ nI k) (hf : f = i.toInt64 + 3 * (nI k).toInt64) (h2 : ¬ (f < 0 ∨ (I 91 (ix s)).toInt64 < f + 3 ∨ I 70 0 = 8)) (hp : p = f.toInt32) (h3 : inR (m_told L s p) 0 999 = 0 ∨ inR (m_told L s (p + 1)) 0 9 = 0 ∨ inR (m_told L s (p + 2)) 0 9 = 0) : m_buyGo L s i z (d + 1) k I = (nI k, I) := by
  subst hp
  subst hf
  unfold m_buyGo
  rw [if_neg h]
  show (if _ then _ else _) = _
  rw [if_neg h2]
  exact if_pos h3
theorem buyGo_3 {L : xL_T} {s i z : Int32} {d k : Nat} {I : xI_T} {f : Int64} {p : Int32} (h : ¬ z ≤ nI k) (hf : f = i.toInt64 + 3 * (nI k).toInt64) (h2 : ¬ (f < 0 ∨ (I 91 (ix s)).toInt64 < f + 3 ∨ I 70 0 = 8)) (hp : p = f.toInt32) (h3 : ¬ (inR (m_told L s p) 0 999 = 0 ∨ inR (m_told L s (p + 1)) 0 9 = 0 ∨ inR (m_told L s (p + 2)) 0 9 = 0)) : m_buyGo L s i z (d + 1) k I = m_buyGo L s i z d (k + 1) (m_newBuyer I (m_told L s p) (m_told L s (p + 1)) (m_told L s (p + 2))) := by
  subst hp
  subst hf
  rw [m_buyGo, if_neg h]
  show (if _ then _ else _) = _
  rw [if_neg h2]
  exact if_neg h3
theorem i64_lt {x y : Int64} : x < y ↔ x.toInt < y.toInt := Int64.lt_iff_toInt_lt
theorem l_f {i : Int32} {k : Nat} (hk : k < 9) : (i.toInt64 + 3 * (nI k).toInt64).toInt = i.toInt + 3 * k := by
  have h1 := Int32.le_toInt i
  have h2 := Int32.toInt_lt i
  rw [nI_l (by omega), Int64.toInt_add, Int64.toInt_mul, Int32.toInt_toInt64, lN_toInt (by omega), show (3 : Int64).toInt = 3 from rfl]
  rw [Int.bmod_eq_of_le (n := 3 * (k : Int)) (by omega) (by omega)]
  exact Int.bmod_eq_of_le (by omega) (by omega)
theorem l_of {f : Int64} {r : Int32} (hB : f.toInt < 4294967296) (h0 : ¬ f < 0) (hr : vp_in r 61) (h : ¬ r.toInt64 < f + 3) : ∃ a : Nat, a + 3 ≤ 60 ∧ f = lN a ∧ f.toInt32 = nI a ∧ a + 3 ≤ ix r := by
  obtain ⟨q, hq, rfl⟩ := vp_in_of hr (by decide)
  obtain ⟨a, ha, rfl⟩ := pk_lOf h0
  rw [pk_lT ha] at hB
  rw [nI_l (by omega), show lN a + 3 = lN (a + 3) from lN_add a 3, pk_lLT (by omega) (by omega)] at h
  refine ⟨a, by omega, rfl, lN_i a, ?_⟩
  rw [ix_n (by omega)]
  omega
theorem told3 {s : Int32} {a k : Nat} {v c : Int32} (hs : vp_in s 6) (ha : a + 3 ≤ 60) (hk : k < 3) (hv : v = nI a) (hc : c = nI k) : vp_in (60 * s + (v + c)) 360 := by
  subst hv
  subst hc
  rw [nI_add]
  exact told_in hs (vp_in_nI (by omega) (by decide))
-- images
abbrev sinc (ob : Int32) (i : Nat) : Prop := (i < 8 ∧ ob ≤ nI i) ∨ (10 + ob ≤ nI i ∧ i < 18)
def m_backN (I : xI_T) (c : Nat) : xI_T := fun q j => if q = 72 ∧ j < c ∧ ¬ sinc (I 70 25) j then I 85 j else I q j
theorem since_a {I J : xI_T} {c : Nat} (hJ : J = m_backN I c) (h : ¬ sinc (I 70 25) c) : up2 J 72 c (J 85 c) = m_backN I (c + 1) := by
  subst hJ
  funext q j
  rw [up2_ap]
  unfold m_backN
  by_cases h1 : q = 72 ∧ j = c
  · rw [if_pos h1, if_neg (by omega), if_pos (show q = 72 ∧ j < c + 1 ∧ ¬ sinc (I 70 25) j from ⟨h1.1, by omega, by rw [h1.2]; exact h⟩), h1.2]
  · rw [if_neg h1]
    by_cases h2 : q = 72 ∧ j < c ∧ ¬ sinc (I 70 25) j
    · rw [if_pos h2, if_pos (show q = 72 ∧ j < c + 1 ∧ ¬ sinc (I 70 25) j from ⟨h2.1, by omega, h2.2.2⟩)]
    · rw [if_neg h2, if_neg (fun z => h2 ⟨z.1, by have := z.2.1; have := h1; omega, z.2.2⟩)]
theorem since_b {I J : xI_T} {c : Nat} (hJ : J = m_backN I c) (h : sinc (I 70 25) c) : J = m_backN I (c + 1) := by
  subst hJ
  funext q j
  unfold m_backN
  by_cases h2 : q = 72 ∧ j < c ∧ ¬ sinc (I 70 25) j
  · rw [if_pos h2, if_pos (show q = 72 ∧ j < c + 1 ∧ ¬ sinc (I 70 25) j from ⟨h2.1, by omega, h2.2.2⟩)]
  · rw [if_neg h2, if_neg (fun z => h2 ⟨z.1, Nat.lt_of_le_of_ne (Nat.lt_succ_iff.mp z.2.1) (fun e => z.2.2 (by rw [e]; exact h)), z.2.2⟩)]
theorem backN_o {I : xI_T} {c q j : Nat} (h : q ≠ 72) : m_backN I c q j = I q j := by
  unfold m_backN
  rw [if_neg (fun z => h z.1)]
theorem backN_z {I : xI_T} : m_backN I 0 = I := by
  funext q j
  unfold m_backN
  rw [if_neg (fun z => Nat.not_lt_zero _ z.2.1)]
def m_back (I : xI_T) : Int32 × xI_T := if I 70 24 = 0 then (-5, I) else (cpy2 (m_backN I 31) 84 0 86 0 5 84 0, cpy2 (m_backN I 31) 84 0 86 0 5)
-- acts
def m_body (I : xI_T) (k : Int32) : Int32 × xI_T := if inR k 0 7 = 0 then (-1, I) else if I 70 31 = 50 then (-3, I) else (I 70 31, up2 (up2 I 88 (ix (I 70 31)) k) 70 31 (I 70 31 + 1))
def m_rans : List Int32 → xI_T → xI_T
  | [], I => I
  | c :: r, I => m_rans r (m_ran I c)
theorem rans_app : ∀ (a b : List Int32) (I : xI_T), m_rans (a ++ b) I = m_rans b (m_rans a I)
  | [], _, _ => rfl
  | c :: r, b, I => rans_app r b (m_ran I c)
theorem ran_n {I : xI_T} {t : Nat} {c : Int32} (h : I 70 33 = nI t) : m_ran I c 70 33 = nI (t + 1) := by
  unfold m_ran
  split
  · rw [up2_s, up2_i _ _ (by decide), h, nI_1]
  · rw [up2_s, h, nI_1]
theorem ran_o {I : xI_T} {c : Int32} {q j : Nat} (h : q ≠ 89) (h2 : ¬ (q = 70 ∧ j = 33)) : m_ran I c q j = I q j := by
  unfold m_ran
  split
  · rw [up2_n _ _ h2, up2_i _ _ h]
  · rw [up2_n _ _ h2]
theorem rans_n : ∀ (l : List Int32) {I : xI_T} {t : Nat}, I 70 33 = nI t → m_rans l I 70 33 = nI (t + l.length)
  | [], _, _, h => h
  | c :: r, I, t, h => by
    have e := rans_n r (ran_n (c := c) h)
    rw [show t + 1 + r.length = t + (c :: r).length by simp [List.length_cons]; omega] at e
    exact e
theorem rans_o {q j : Nat} (h : q ≠ 89) (h2 : ¬ (q = 70 ∧ j = 33)) : ∀ (l : List Int32) (I : xI_T), m_rans l I q j = I q j
  | [], _ => rfl
  | c :: r, I => (rans_o h h2 r (m_ran I c)).trans (ran_o h h2)
-- shelves
def m_trace (I : xI_T) (i : Int32) : Int32 := if inR i 0 (jmin 24 (I 70 33) - 1) = 0 then -1 else I 89 (ix i)
theorem trace_in {i t : Int32} {z : Nat} (h : ¬ inR i 0 (jmin 24 t - 1) = 0) (ht : t = nI z) (hz : z < 1000) : vp_in i 24 := by
  obtain ⟨h1, h2⟩ := inR_n.mp h
  have h3 : (jmin 24 t - 1).toInt ≤ 23 := by
    subst ht
    unfold jmin
    split
    · decide
    · rename_i h4
      rw [i_le, show (24 : Int32).toInt = 24 from rfl, nI_toInt (by omega)] at h4
      rw [i_sub (by rw [nI_toInt (by omega), show (1 : Int32).toInt = 1 from rfl]; omega) (by rw [nI_toInt (by omega), show (1 : Int32).toInt = 1 from rfl]; omega), nI_toInt (by omega), show (1 : Int32).toInt = 1 from rfl]
      omega
  rw [i_lt, show (0 : Int32).toInt = 0 from rfl] at h1
  rw [i_lt] at h2
  exact vp_in_iff.mpr (by omega)
def m_keep (I : xI_T) (s b : Int32) : Int32 × xI_T := if inR s 0 5 = 0 then (-1, I) else if inR b (-1) (I 70 31 - 1) = 0 then (-1, I) else (1, up2 (up2 I 90 (ix s) (if b < 0 then -1 else 10 + b)) 91 (ix s) 0)
def fillL (L : xL_T) (o c : Nat) : xL_T := fun q j => if q = 92 ∧ o ≤ j ∧ j < o + c then 0 else L q j
theorem fillL_z {L : xL_T} {o : Nat} : fillL L o 0 = L := by
  funext q j
  unfold fillL
  rw [if_neg (by omega)]
theorem fillL_up {L : xL_T} {o c : Nat} : up2 (fillL L o c) 92 (o + c) 0 = fillL L o (c + 1) := by
  funext q j
  rw [up2_ap]
  unfold fillL
  by_cases h : q = 92 ∧ j = o + c
  · rw [if_pos h, if_pos (show q = 92 ∧ o ≤ j ∧ j < o + (c + 1) from ⟨h.1, by omega, by omega⟩)]
  · rw [if_neg h]
    by_cases h2 : q = 92 ∧ o ≤ j ∧ j < o + c
    · rw [if_pos h2, if_pos (show q = 92 ∧ o ≤ j ∧ j < o + (c + 1) from ⟨h2.1, by omega, by omega⟩)]
    · rw [if_neg h2, if_neg (by omega)]
def m_row (I : xI_T) (s t z : Int32) : Int32 × xI_T := if inR s 0 5 = 0 then (-1, I) else if inR t 0 4 = 0 then (-1, I) else if 60 < z then (-1, I) else if z < 0 then (-14, I) else (1, up2 (up2 I 90 (ix s) t) 91 (ix s) z)
def m_rowL (L : xL_T) (s t z : Int32) : xL_T := if inR s 0 5 = 0 then L else if inR t 0 4 = 0 then L else if 60 < z then L else if z < 0 then L else fillL L (60 * ix s) 60
def m_isRow (I : xI_T) (s : Int32) : Int32 := inR (I 90 (ix s)) 0 4
def m_kept (t : Int32) (v : Int64) : Int64 := if t = 0 then v.toInt32.toInt8.toInt32.toInt64 else if t = 1 then v.toInt32.toInt16.toInt32.toInt64 else if t = 2 then v.toInt32.toInt64 else if t = 3 then v else if v = 0 then 0 else 1
def m_put (I : xI_T) (s i : Int32) : Int32 := if inR s 0 5 = 0 then -1 else if I 90 (ix s) = -1 then -11 else if m_isRow I s = 0 then -12 else if inR i 0 (I 91 (ix s) - 1) = 0 then -13 else 1
def m_putL (I : xI_T) (L : xL_T) (s i : Int32) (v : Int64) : xL_T := if m_put I s i = 1 then up2 L 92 (60 * ix s + ix i) (m_kept (I 90 (ix s)) v) else L
def m_elem (I : xI_T) (L : xL_T) (s i : Int32) : Int64 := if inR s 0 5 = 0 then -9223372036854775808 else if m_isRow I s = 0 then -9223372036854775808 else if inR i 0 (I 91 (ix s) - 1) = 0 then -9223372036854775808 else L 92 (60 * ix s + ix i)
theorem row_in {i r : Int32} (hr : vp_in r 61) (h : ¬ inR i 0 (r - 1) = 0) : vp_in i 60 ∧ ix i < ix r := by
  obtain ⟨q, hq, rfl⟩ := vp_in_of hr (by decide)
  obtain ⟨h1, h2⟩ := inR_n.mp h
  rw [i_lt, show (0 : Int32).toInt = 0 from rfl] at h1
  rw [i_lt, i_sub (by rw [nI_toInt (by omega), show (1 : Int32).toInt = 1 from rfl]; omega) (by rw [nI_toInt (by omega), show (1 : Int32).toInt = 1 from rfl]; omega), nI_toInt (by omega), show (1 : Int32).toInt = 1 from rfl] at h2
  obtain ⟨j, hj, rfl⟩ := vp_in_of (x := i) (n := 60) (vp_in_iff.mpr (by omega)) (by decide)
  rw [nI_toInt (by omega)] at h2
  exact ⟨vp_in_nI hj (by decide), by rw [ix_n (by omega), ix_n (by omega)]; omega⟩
theorem ix_60 {s i : Int32} (hs : vp_in s 6) (hi : vp_in i 60) : ix (60 * s + i) = 60 * ix s + ix i := by
  obtain ⟨a, ha, rfl⟩ := vp_in_of hs (by decide)
  obtain ⟨b, hb, rfl⟩ := vp_in_of hi (by decide)
  rw [show (60 : Int32) * nI a = nI (60 * a) from pk_mul 60 a, nI_add, ix_n (by omega), ix_n (by omega), ix_n (by omega)]
def cpyL (L : xL_T) (o p c : Nat) : xL_T := fun q j => if q = 92 ∧ o ≤ j ∧ j < o + c then L 92 (p + (j - o)) else L q j
theorem cpyL_z {L : xL_T} {o p : Nat} : cpyL L o p 0 = L := by
  funext q j
  unfold cpyL
  rw [if_neg (by omega)]
theorem cpyL_up {L : xL_T} {o p c : Nat} (h : o ≤ p ∨ p + c < o ∨ p + c ≥ o + c) : up2 (cpyL L o p c) 92 (o + c) (cpyL L o p c 92 (p + c)) = cpyL L o p (c + 1) := by
  have e : cpyL L o p c 92 (p + c) = L 92 (p + c) := by
    unfold cpyL
    rw [if_neg (by omega)]
  rw [e]
  funext q j
  rw [up2_ap]
  unfold cpyL
  by_cases h2 : q = 92 ∧ j = o + c
  · rw [if_pos h2, if_pos (show q = 92 ∧ o ≤ j ∧ j < o + (c + 1) from ⟨h2.1, by omega, by omega⟩), show p + (j - o) = p + c by omega]
  · rw [if_neg h2]
    by_cases h3 : q = 92 ∧ o ≤ j ∧ j < o + c
    · rw [if_pos h3, if_pos (show q = 92 ∧ o ≤ j ∧ j < o + (c + 1) from ⟨h3.1, by omega, by omega⟩)]
    · rw [if_neg h3, if_neg (by omega)]
/-- the last ones, from the k-th on -/
def cpyD (L : xL_T) (o p k z : Nat) : xL_T := fun q j => if q = 92 ∧ o + k ≤ j ∧ j < o + z then L 92 (p + (j - o)) else L q j
theorem cpyD_z {L : xL_T} {o p z : Nat} : cpyD L o p z z = L := by
  funext q j
  unfold cpyD
  rw [if_neg (by omega)]
theorem cpyD_0 {L : xL_T} {o p z : Nat} : cpyD L o p 0 z = cpyL L o p z := by
  funext q j
  unfold cpyD cpyL
  rfl
theorem cpyD_up {L : xL_T} {o p k z : Nat} (h : p < o) (hk : k < z) : up2 (cpyD L o p (k + 1) z) 92 (o + k) (cpyD L o p (k + 1) z 92 (p + k)) = cpyD L o p k z := by
  have e : cpyD L o p (k + 1) z 92 (p + k) = L 92 (p + k) := by
    unfold cpyD
    rw [if_neg (by omega)]
  rw [e]
  funext q j
  rw [up2_ap]
  unfold cpyD
  by_cases h2 : q = 92 ∧ j = o + k
  · rw [if_pos h2, if_pos (show q = 92 ∧ o + k ≤ j ∧ j < o + z from ⟨h2.1, by omega, by omega⟩), show p + (j - o) = p + k by omega]
  · rw [if_neg h2]
    by_cases h3 : q = 92 ∧ o + (k + 1) ≤ j ∧ j < o + z
    · rw [if_pos h3, if_pos (show q = 92 ∧ o + k ≤ j ∧ j < o + z from ⟨h3.1, by omega, h3.2.2⟩)]
    · rw [if_neg h3, if_neg (by omega)]
def m_shiftC (I : xI_T) (s i t j z : Int32) : Int32 := if inR s 0 5 = 0 then -1 else if inR t 0 5 = 0 then -1 else if I 90 (ix s) = -1 then -11 else if I 90 (ix t) = -1 then -11 else if m_isRow I s = 0 then -12 else if m_isRow I t = 0 then -12 else if ¬ I 90 (ix s) = I 90 (ix t) then -12 else
  if z < 0 ∨ i < 0 ∨ j < 0 ∨ (I 91 (ix s)).toInt64 < i.toInt64 + z.toInt64 ∨ (I 91 (ix t)).toInt64 < j.toInt64 + z.toInt64 then -13 else z
def m_shiftL (I : xI_T) (L : xL_T) (s i t j z : Int32) : xL_T := if m_shiftC I s i t j z < 0 then L else cpyL L (60 * ix t + ix j) (60 * ix s + ix i) (ix z)
def m_up (k : Int32) : Nat → Int32 → Int32
  | 0, u => u
  | f + 1, u => if u = k then u else if u ≤ 0 then u else m_up k f (m_above u)
def m_taken (I : xI_T) (s k : Int32) : Int32 := if inR s 0 5 = 0 then -1 else if inR k 0 7 = 0 then -1 else if I 90 (ix s) = -1 then -11 else if ¬ m_isRow I s = 0 then -12 else
  if m_up k 8 (I 88 (ix (I 90 (ix s) - 10))) = k then I 88 (ix (I 90 (ix s) - 10)) else -12
def m_count (I : xI_T) (w : Int32) : Int32 := if w = 0 then I 70 0 else if w = 1 then I 72 18 else if w = 2 then I 70 5 else if w = 3 then I 70 29 else if w = 4 then I 70 31 else if w = 5 then I 70 33 else -1
theorem nb_0 {J : xI_T} {p w q : Int32} (h : vp_in (J 70 0) 9) (h8 : ¬ J 70 0 = 8) : vp_in (m_newBuyer J p w q 70 0) 9 := by
  obtain ⟨z, hz, e⟩ := vp_in_of (xin8 h h8) (by decide)
  unfold m_newBuyer
  rw [up2_s, e, nI_1]
  exact vp_in_nI (by omega) (by decide)
theorem Wsh.newB {J : xI_T} {p w q : Int32} (h : Wsh J) : Wsh (m_newBuyer J p w q) := fun s hs => by
  unfold m_newBuyer
  rw [up2_i _ _ (by decide), up2_i _ _ (by decide), up2_i _ _ (by decide), up2_i _ _ (by decide)]
  exact h s hs
theorem bd_50 {x : Int32} (h : vp_in x 51) (h8 : ¬ x = 50) : vp_in x 50 := by
  rw [vp_in_iff] at h ⊢
  rw [i_eq, show (50 : Int32).toInt = 50 from rfl] at h8
  omega
theorem putL_0 {I : xI_T} {L : xL_T} {s i : Int32} {v : Int64} (h : ¬ m_put I s i = 1) : L = m_putL I L s i v := by
  unfold m_putL
  rw [if_neg h]
theorem putL_1 {I : xI_T} {L : xL_T} {s i : Int32} {v : Int64} (h : m_put I s i = 1) : m_putL I L s i v = up2 L 92 (60 * ix s + ix i) (m_kept (I 90 (ix s)) v) := by
  unfold m_putL
  rw [if_pos h]
theorem shiftL_0 {I : xI_T} {L : xL_T} {s i t j z r : Int32} (h : m_shiftC I s i t j z = r) (hr : r < 0) : L = m_shiftL I L s i t j z := by
  unfold m_shiftL
  rw [if_pos (by rw [h]; exact hr)]
theorem shiftL_1 {I : xI_T} {L : xL_T} {s i t j z : Int32} (h : m_shiftC I s i t j z = z) (hr : ¬ z < 0) : m_shiftL I L s i t j z = cpyL L (60 * ix t + ix j) (60 * ix s + ix i) (ix z) := by
  unfold m_shiftL
  rw [if_neg (by rw [h]; exact hr)]
theorem shift_m {j r : Int32} {c : Nat} (hj : ¬ j < 0) (hc : c ≤ 60) (hr : vp_in r 61) (h : ¬ r.toInt64 < j.toInt64 + (nI c).toInt64) : ∃ q : Nat, j = nI q ∧ q + c ≤ ix r ∧ q + c ≤ 60 := by
  obtain ⟨q, hq, rfl⟩ := nI_of hj
  obtain ⟨u, hu, rfl⟩ := vp_in_of hr (by decide)
  rw [nI_l (by omega), nI_l hq, nI_l (by omega), lN_add, pk_lLT (by omega) (by omega)] at h
  exact ⟨q, rfl, by rw [ix_n (by omega)]; omega, by omega⟩
theorem shift_n {i z r : Int32} (hi : ¬ i < 0) (hz : ¬ z < 0) (hr : vp_in r 61) (h : ¬ r.toInt64 < i.toInt64 + z.toInt64) : ∃ p c : Nat, i = nI p ∧ z = nI c ∧ p + c ≤ ix r ∧ p + c ≤ 60 := by
  obtain ⟨c, hc, rfl⟩ := nI_of hz
  obtain ⟨q, hq, rfl⟩ := nI_of hi
  obtain ⟨u, hu, rfl⟩ := vp_in_of hr (by decide)
  rw [nI_l (by omega), nI_l hq, nI_l hc, lN_add, pk_lLT (by omega) (by omega)] at h
  exact ⟨q, c, rfl, rfl, by rw [ix_n (by omega)]; omega, by omega⟩
theorem shift_0 {k : Nat} {w : Int32} (hw : w = nI k - 1) (hk : k < 1000) (h : w < 0) : k = 0 := by
  rcases Nat.eq_zero_or_pos k with z | z
  · exact z
  · rw [hw, nI_m1 z] at h
    exact absurd h (nI_pos (by omega))
theorem shift_1 {k : Nat} {w : Int32} (hw : w = nI k - 1) (hk : k < 1000) (h : ¬ w < 0) : ∃ e : Nat, k = e + 1 ∧ w = nI e := by
  rcases Nat.eq_zero_or_pos k with z | z
  · subst z
    subst hw
    exact absurd (by decide) h
  · exact ⟨k - 1, by omega, by rw [hw, nI_m1 z]⟩
theorem up_0 {k u : Int32} {f : Nat} (h : u = k) : m_up k (f + 1) u = u := by
  unfold m_up
  rw [if_pos h]
theorem up_1 {k u : Int32} {f : Nat} (h : ¬ u = k) (h2 : u ≤ 0) : m_up k (f + 1) u = u := by
  unfold m_up
  rw [if_neg h, if_pos h2]
theorem up_2 {k u : Int32} {f : Nat} (h : ¬ u = k) (h2 : ¬ u ≤ 0) : m_up k (f + 1) u = m_up k f (m_above u) := by
  rw [m_up, if_neg h, if_neg h2]
theorem above_0 : ∀ c : Fin 8, 0 < c.1 → m_above (nI c.1) = nI 0 ∨ (∃ d : Fin 8, d.1 < c.1 ∧ m_above (nI c.1) = nI d.1) := by decide +kernel
theorem above_lt {c : Nat} (h8 : c < 8) (h0 : 0 < c) : ∃ d : Nat, d < c ∧ m_above (nI c) = nI d := by
  rcases above_0 ⟨c, h8⟩ h0 with q | ⟨d, h1, h2⟩
  · exact ⟨0, h0, q⟩
  · exact ⟨d.1, h1, h2⟩
