/-! RINGS: walks and their lengths -/
/-- a walk of n steps among those below N -/
def wlk (E : Nat → Nat → Prop) (N : Nat) : Nat → Nat → Nat → Prop
  | 0, a, c => a = c
  | n + 1, a, c => ∃ b : Nat, b < N ∧ wlk E N n a b ∧ E b c ∧ c < N
/-- a walk of n steps, what lies between is below k -/
def fwP (E : Nat → Nat → Prop) (k : Nat) : Nat → Nat → Nat → Prop
  | 0, _, _ => False
  | 1, i, j => E i j
  | n + 2, i, j => ∃ c : Nat, c < k ∧ E i c ∧ fwP E k (n + 1) c j
theorem fwP_s {E : Nat → Nat → Prop} {k : Nat} : ∀ {n i j c : Nat}, c < k → E i c → fwP E k n c j → fwP E k (n + 1) i j
  | 0, _, _, _, _, _, h => h.elim
  | n + 1, _, _, c, hc, he, h => ⟨c, hc, he, h⟩
theorem fwP_split {E : Nat → Nat → Prop} {k : Nat} : ∀ (n i j : Nat), fwP E (k + 1) n i j → fwP E k n i j ∨ ∃ n1 n2 : Nat, n1 + n2 ≤ n ∧ fwP E k n1 i k ∧ fwP E k n2 k j
  | 0, _, _, h => h.elim
  | 1, _, _, h => Or.inl h
  | n + 2, i, j, h => by
    obtain ⟨c, hc, he, hr⟩ := h
    by_cases hck : c = k
    · subst hck
      rcases fwP_split (n + 1) c j hr with q | ⟨n1, n2, hs, q1, q2⟩
      · exact Or.inr ⟨1, n + 1, by omega, he, q⟩
      · exact Or.inr ⟨1, n2, by omega, he, q2⟩
    · have hc2 : c < k := by omega
      rcases fwP_split (n + 1) c j hr with q | ⟨n1, n2, hs, q1, q2⟩
      · exact Or.inl ⟨c, hc2, he, q⟩
      · exact Or.inr ⟨n1 + 1, n2, by omega, fwP_s hc2 he q1, q2⟩
theorem fwP_app {E : Nat → Nat → Prop} {k b j n2 : Nat} (hb : b < k) (h2 : fwP E k n2 b j) : ∀ (n1 i : Nat), fwP E k n1 i b → fwP E k (n1 + n2) i j
  | 0, _, h => h.elim
  | 1, i, h => by
    rw [Nat.add_comm]
    exact fwP_s hb h h2
  | n + 2, i, h => by
    obtain ⟨c, hc, he, hr⟩ := h
    have q := fwP_app hb h2 (n + 1) c hr
    rw [show n + 2 + n2 = (n + 1 + n2) + 1 by omega]
    exact fwP_s hc he q
theorem wlk_pre {E : Nat → Nat → Prop} {N i c : Nat} (hi : i < N) (hc : c < N) (he : E i c) : ∀ (n j : Nat), wlk E N n c j → wlk E N (n + 1) i j
  | 0, j, h => ⟨i, hi, rfl, by have h2 : c = j := h; rw [← h2]; exact ⟨he, hc⟩⟩
  | n + 1, j, h => by
    obtain ⟨b, hb, hw, he2, hj⟩ := h
    exact ⟨b, hb, wlk_pre hi hc he n b hw, he2, hj⟩
theorem fwP_wlk {E : Nat → Nat → Prop} {N k : Nat} (hE : ∀ a b : Nat, E a b → a < N ∧ b < N) : ∀ (n i j : Nat), fwP E k n i j → wlk E N n i j
  | 0, _, _, h => h.elim
  | 1, i, j, h => ⟨i, (hE i j h).1, rfl, h, (hE i j h).2⟩
  | n + 2, i, j, h => by
    obtain ⟨c, hc, he, hr⟩ := h
    exact wlk_pre (hE i c he).1 (hE i c he).2 he (n + 1) j (fwP_wlk hE (n + 1) c j hr)
theorem wlk_fwP {E : Nat → Nat → Prop} {N k : Nat} (hN : N ≤ k) : ∀ (n i j : Nat), wlk E N (n + 1) i j → fwP E k (n + 1) i j
  | 0, i, j, h => by
    obtain ⟨b, hb, hw, he, hj⟩ := h
    have h2 : i = b := hw
    rw [h2]
    exact he
  | n + 1, i, j, h => by
    obtain ⟨b, hb, hw, he, hj⟩ := h
    exact fwP_app (n2 := 1) (Nat.lt_of_lt_of_le hb hN) he (n + 1) i (wlk_fwP hN n i b hw)
theorem pigs : ∀ (n L : Nat) (f : Nat → Nat), (∀ i : Nat, i < L → f i < n) → (∀ i j : Nat, i < j → j < L → f i ≠ f j) → L ≤ n
  | 0, L, f, h, _ => by
    rcases Nat.eq_zero_or_pos L with q | q
    · omega
    · exact absurd (h 0 q) (Nat.not_lt_zero _)
  | n + 1, L, f, h, hf => by
    by_cases hx : ∃ i : Nat, i < L ∧ f i = n
    · obtain ⟨i0, hi0, e0⟩ := hx
      have q := pigs n (L - 1) (fun i => if i < i0 then f i else f (i + 1)) (fun i hi => by
        show (if i < i0 then f i else f (i + 1)) < n
        by_cases h1 : i < i0
        · rw [if_pos h1]
          have a := h i (by omega)
          have b := hf i i0 h1 hi0
          omega
        · rw [if_neg h1]
          have a := h (i + 1) (by omega)
          have b := hf i0 (i + 1) (by omega) (by omega)
          omega) (fun i j hij hj => by
        show (if i < i0 then f i else f (i + 1)) ≠ (if j < i0 then f j else f (j + 1))
        by_cases h1 : i < i0
        · rw [if_pos h1]
          by_cases h2 : j < i0
          · rw [if_pos h2]
            exact hf i j hij (by omega)
          · rw [if_neg h2]
            exact hf i (j + 1) (by omega) (by omega)
        · rw [if_neg h1, if_neg (by omega)]
          exact hf (i + 1) (j + 1) (by omega) (by omega))
      omega
    · have q := pigs n L f (fun i hi => by
        have a := h i hi
        have b : f i ≠ n := fun e => hx ⟨i, hi, e⟩
        omega) hf
      omega
/-- a walk's places -/
theorem wlk_v {E : Nat → Nat → Prop} {N : Nat} : ∀ (n a c : Nat), a < N → wlk E N n a c → ∃ v : Nat → Nat, v 0 = a ∧ v n = c ∧ (∀ t : Nat, t ≤ n → v t < N) ∧ ∀ t : Nat, t < n → E (v t) (v (t + 1))
  | 0, a, c, ha, h => ⟨fun _ => a, rfl, h, fun _ _ => ha, fun t ht => absurd ht (Nat.not_lt_zero _)⟩
  | n + 1, a, c, ha, h => by
    obtain ⟨b, hb, hw, he, hc⟩ := h
    obtain ⟨v, v1, v2, v3, v4⟩ := wlk_v n a b ha hw
    refine ⟨fun t => if t ≤ n then v t else c, ?_, ?_, fun t ht => ?_, fun t ht => ?_⟩
    · show (if 0 ≤ n then v 0 else c) = a
      rw [if_pos (Nat.zero_le _)]
      exact v1
    · show (if n + 1 ≤ n then v (n + 1) else c) = c
      rw [if_neg (by omega)]
    · show (if t ≤ n then v t else c) < N
      by_cases h1 : t ≤ n
      · rw [if_pos h1]; exact v3 t h1
      · rw [if_neg h1]; exact hc
    · show E (if t ≤ n then v t else c) (if t + 1 ≤ n then v (t + 1) else c)
      rw [if_pos (by omega)]
      by_cases h1 : t + 1 ≤ n
      · rw [if_pos h1]; exact v4 t (by omega)
      · rw [if_neg h1, show t = n by omega, v2]; exact he
theorem v_wlk {E : Nat → Nat → Prop} {N : Nat} {v : Nat → Nat} {n : Nat} (h3 : ∀ t : Nat, t ≤ n → v t < N) (h4 : ∀ t : Nat, t < n → E (v t) (v (t + 1))) (p : Nat) : ∀ d : Nat, p + d ≤ n → wlk E N d (v p) (v (p + d))
  | 0, _ => rfl
  | d + 1, hd => ⟨v (p + d), h3 _ (by omega), v_wlk h3 h4 p d (by omega), h4 (p + d) (by omega), h3 (p + (d + 1)) hd⟩
/-- the shortest ring is no longer than there are places -/
theorem ring_le {E : Nat → Nat → Prop} {N L a : Nat} (hL : 1 ≤ L) (ha : a < N) (h : wlk E N L a a) (hm : ∀ b n : Nat, b < N → 1 ≤ n → n < L → ¬ wlk E N n b b) : L ≤ N := by
  obtain ⟨v, v1, v2, v3, v4⟩ := wlk_v L a a ha h
  refine pigs N L v (fun i hi => v3 i (by omega)) (fun i j hij hj e => ?_)
  have w := v_wlk v3 v4 i (j - i) (by omega)
  rw [show i + (j - i) = j by omega, ← e] at w
  exact hm (v i) (j - i) (v3 i (by omega)) (by omega) (by omega) w
/-! all shortest ways, on the reference's side -/
abbrev dd (K : xI_T) (i j : Nat) : Nat := ix (K 102 (8 * i + j))
def fwI (E : Nat → Nat → Prop) (K : xI_T) : Prop := ∀ i j : Nat, i < 8 → j < 8 → ∃ d : Nat, K 102 (8 * i + j) = nI d ∧ 1 ≤ d ∧ d ≤ 99 ∧ (d < 99 → fwP E 8 d i j)
theorem fwI.d {E : Nat → Nat → Prop} {K : xI_T} (h : fwI E K) {i j : Nat} (hi : i < 8) (hj : j < 8) : K 102 (8 * i + j) = nI (dd K i j) ∧ 1 ≤ dd K i j ∧ dd K i j ≤ 99 ∧ (dd K i j < 99 → fwP E 8 (dd K i j) i j) := by
  obtain ⟨d, e, h1, h2, h3⟩ := h i j hi hj
  have e2 : dd K i j = d := by
    unfold dd
    rw [e]
    exact ix_n (by omega)
  rw [e2]
  exact ⟨e, h1, h2, h3⟩
def fwC (E : Nat → Nat → Prop) (k : Nat) (K : xI_T) : Prop := ∀ i j n : Nat, i < 8 → j < 8 → fwP E k n i j → dd K i j ≤ n
theorem jmin_n {a b : Nat} (ha : a < 1000) (hb : b < 1000) : jmin (nI a) (nI b) = nI (min a b) := by
  unfold jmin
  by_cases h : a ≤ b
  · rw [if_pos ((nI_leI (by omega) (by omega)).mpr h), Nat.min_eq_left h]
  · rw [if_neg (fun z => h ((nI_leI (by omega) (by omega)).mp z)), Nat.min_eq_right (by omega)]
theorem fw_in {E : Nat → Nat → Prop} {b : Nat} (hb : b < 8) {K0 : xI_T} (h0 : fwI E K0) : ∀ i : Nat, i ≤ 64 → fwI E (itI (m_fwI b) i K0) ∧ (∀ p q : Nat, p < 8 → q < 8 → dd (itI (m_fwI b) i K0) p q ≤ dd K0 p q) ∧ ∀ p q : Nat, p < 8 → q < 8 → 8 * p + q < i → dd (itI (m_fwI b) i K0) p q ≤ dd K0 p b + dd K0 b q
  | 0, _ => ⟨h0, fun _ _ _ _ => Nat.le_refl _, fun p q _ _ h => absurd h (Nat.not_lt_zero _)⟩
  | i + 1, hi => by
    obtain ⟨a1, a2, a3⟩ := fw_in hb h0 i (by omega)
    have hp : i / 8 < 8 := by omega
    have hq : i % 8 < 8 := Nat.mod_lt _ (by decide)
    have ei : 8 * (i / 8) + i % 8 = i := Nat.div_add_mod i 8
    have e1 : i - i % 8 + b = 8 * (i / 8) + b := by omega
    show fwI E (m_fw1 b i (itI (m_fwI b) i K0)) ∧ (∀ p q : Nat, p < 8 → q < 8 → dd (m_fw1 b i (itI (m_fwI b) i K0)) p q ≤ dd K0 p q) ∧ ∀ p q : Nat, p < 8 → q < 8 → 8 * p + q < i + 1 → dd (m_fw1 b i (itI (m_fwI b) i K0)) p q ≤ dd K0 p b + dd K0 b q
    generalize itI (m_fwI b) i K0 = M at a1 a2 a3 ⊢
    obtain ⟨x1, x2, x3, x4⟩ := a1.d hp hq
    obtain ⟨y1, y2, y3, y4⟩ := a1.d hp hb
    obtain ⟨z1, z2, z3, z4⟩ := a1.d hb hq
    have b1 := a2 (i / 8) (i % 8) hp hq
    have b2 := a2 (i / 8) b hp hb
    have b3 := a2 b (i % 8) hb hq
    generalize dd M (i / 8) (i % 8) = x at x1 x2 x3 x4 b1
    generalize dd M (i / 8) b = y at y1 y2 y3 y4 b2
    generalize dd M b (i % 8) = z at z1 z2 z3 z4 b3
    rw [ei] at x1
    have eM : m_fw1 b i M = up2 M 102 i (nI (min x (y + z))) := by
      unfold m_fw1
      rw [e1, x1, y1, z1, nI_add, jmin_n (by omega) (by omega)]
    rw [eM]
    have ep : ∀ p q : Nat, p < 8 → q < 8 → ¬ 8 * p + q = i → dd (up2 M 102 i (nI (min x (y + z)))) p q = dd M p q := fun p q h1 h2 h3 => by
      unfold dd
      rw [up2_k _ _ h3]
    have eq : ∀ p q : Nat, p < 8 → q < 8 → 8 * p + q = i → dd (up2 M 102 i (nI (min x (y + z)))) p q = min x (y + z) ∧ p = i / 8 ∧ q = i % 8 := fun p q h1 h2 h3 => by
      refine ⟨?_, by omega, by omega⟩
      unfold dd
      rw [h3, up2_s]
      exact ix_n (by omega)
    refine ⟨fun p q h1 h2 => ?_, fun p q h1 h2 => ?_, fun p q h1 h2 h3 => ?_⟩
    · by_cases h3 : 8 * p + q = i
      · obtain ⟨-, g1, g2⟩ := eq p q h1 h2 h3
        refine ⟨min x (y + z), by rw [h3, up2_s], by omega, by omega, fun h4 => ?_⟩
        rw [g1, g2]
        by_cases h5 : x ≤ y + z
        · rw [Nat.min_eq_left h5] at h4 ⊢
          exact x4 h4
        · rw [Nat.min_eq_right (by omega)] at h4 ⊢
          exact fwP_app hb (z4 (by omega)) y (i / 8) (y4 (by omega))
      · obtain ⟨d, g⟩ := a1 p q h1 h2
        exact ⟨d, by rw [up2_k _ _ h3]; exact g.1, g.2⟩
    · by_cases h3 : 8 * p + q = i
      · obtain ⟨g, g1, g2⟩ := eq p q h1 h2 h3
        rw [g, g1, g2]
        omega
      · rw [ep p q h1 h2 h3]
        exact a2 p q h1 h2
    · by_cases h4 : 8 * p + q = i
      · obtain ⟨g, g1, g2⟩ := eq p q h1 h2 h4
        rw [g, g1, g2]
        omega
      · rw [ep p q h1 h2 h4]
        exact a3 p q h1 h2 (by omega)
theorem fw_out {E : Nat → Nat → Prop} {K0 : xI_T} (h0 : fwI E K0) (hc : fwC E 0 K0) : ∀ b : Nat, b ≤ 8 → fwI E (itI m_fwO b K0) ∧ fwC E b (itI m_fwO b K0)
  | 0, _ => ⟨h0, hc⟩
  | b + 1, hb => by
    obtain ⟨a1, a2⟩ := fw_out h0 hc b (by omega)
    obtain ⟨c1, c2, c3⟩ := fw_in (show b < 8 by omega) a1 64 (by decide)
    refine ⟨c1, fun i j n hi hj h => ?_⟩
    show dd (itI (m_fwI b) 64 (itI m_fwO b K0)) i j ≤ n
    rcases fwP_split n i j h with q | ⟨n1, n2, hs, q1, q2⟩
    · exact Nat.le_trans (c2 i j hi hj) (a2 i j n hi hj q)
    · have g1 := c3 i j hi hj (by omega)
      have g2 := a2 i b n1 hi (by omega) q1
      have g3 := a2 b j n2 (by omega) hj q2
      omega
def edg (J : xI_T) (a b : Nat) : Prop := a < 8 ∧ b < 8 ∧ ¬ J 95 (8 * a + b) ≤ 0
theorem ring0_I {J : xI_T} : fwI (edg J) (m_ring0 J) ∧ fwC (edg J) 0 (m_ring0 J) := by
  have e : ∀ i j : Nat, i < 8 → j < 8 → m_ring0 J 102 (8 * i + j) = if J 95 (8 * i + j) ≤ 0 then 99 else 1 := fun i j hi hj => by
    unfold m_ring0
    rw [if_pos ⟨rfl, by omega⟩]
  refine ⟨fun i j hi hj => ?_, fun i j n hi hj h => ?_⟩
  · rw [e i j hi hj]
    by_cases h : J 95 (8 * i + j) ≤ 0
    · rw [if_pos h]
      exact ⟨99, rfl, by decide, by decide, fun q => absurd q (by decide)⟩
    · rw [if_neg h]
      exact ⟨1, rfl, by decide, by decide, fun _ => ⟨hi, hj, h⟩⟩
  · match n, h with
    | 0, h => exact h.elim
    | 1, h =>
      obtain ⟨-, -, h3⟩ := (h : edg J i j)
      unfold dd
      rw [e i j hi hj, if_neg h3]
      decide
    | n + 2, h =>
      obtain ⟨c, hc, -⟩ := h
      exact absurd hc (Nat.not_lt_zero _)
theorem least_I {E : Nat → Nat → Prop} {K : xI_T} (h : fwI E K) (hc : fwC E 8 K) : ∀ k : Nat, k ≤ 8 → ∃ l : Nat, m_least K k = nI l ∧ l ≤ 99 ∧ (l < 99 → ∃ b : Nat, b < 8 ∧ 1 ≤ l ∧ fwP E 8 l b b) ∧ ∀ b n : Nat, b < k → fwP E 8 n b b → l ≤ n
  | 0, _ => ⟨99, rfl, Nat.le_refl _, fun q => absurd q (by decide), fun b n hb => absurd hb (Nat.not_lt_zero _)⟩
  | k + 1, hk => by
    obtain ⟨l, e, h1, h2, h3⟩ := least_I h hc k (by omega)
    obtain ⟨x1, x2, x3, x4⟩ := h.d (show k < 8 by omega) (show k < 8 by omega)
    have x5 := fun n => hc k k n (by omega) (by omega)
    generalize dd K k k = x at x1 x2 x3 x4 x5
    refine ⟨min l x, ?_, by omega, fun q => ?_, fun b n hb hn => ?_⟩
    · show jmin (m_least K k) (K 102 (9 * k)) = _
      rw [e, show 9 * k = 8 * k + k by omega, x1]
      exact jmin_n (by omega) (by omega)
    · by_cases z : l ≤ x
      · rw [Nat.min_eq_left z] at q ⊢
        exact h2 q
      · rw [Nat.min_eq_right (by omega)] at q ⊢
        exact ⟨k, by omega, x2, x4 q⟩
    · by_cases z : b = k
      · subst z
        have := x5 n hn
        omega
      · have := h3 b n (by omega) hn
        omega
/-- what is told of the smallest ring -/
def ringS (E : Nat → Nat → Prop) (N : Nat) (r : Int32) : Prop := (r = -2 ∧ ∀ a n : Nat, a < N → 1 ≤ n → n ≤ N → ¬ wlk E N n a a) ∨ ∃ m : Nat, r = nI m ∧ 1 ≤ m ∧ m ≤ N ∧ (∃ a : Nat, a < N ∧ wlk E N m a a) ∧ ∀ a n : Nat, a < N → 1 ≤ n → n < m → ¬ wlk E N n a a
theorem ring_eq {J : xI_T} {N : Nat} {r : Int32} (hN : N ≤ 8) (hE : ∀ a b : Nat, edg J a b → a < N ∧ b < N) (h : ringS (edg J) N r) : r = (m_ring J).1 := by
  obtain ⟨i0, c0⟩ := ring0_I (J := J)
  obtain ⟨i1, c1⟩ := fw_out i0 c0 8 (Nat.le_refl _)
  obtain ⟨l, e, h1, h2, h3⟩ := least_I i1 c1 8 (Nat.le_refl _)
  have e9 : (m_ring J).1 = if m_least (itI m_fwO 8 (m_ring0 J)) 8 = 99 then -2 else m_least (itI m_fwO 8 (m_ring0 J)) 8 := by
    rw [ring_1 (J := itI m_fwO 8 (m_ring0 J)) rfl]
  rw [e9, e]
  rcases Nat.lt_or_ge l 99 with hl | hl
  · rw [if_neg (fun z => by have := (nI_eq (a := l) (b := 99) (by omega) (by decide)).mp z; omega)]
    obtain ⟨b, hb, hl1, hw⟩ := h2 hl
    have hw2 := fwP_wlk hE l b b hw
    have hbN : b < N := by
      obtain ⟨l2, rfl⟩ : ∃ l2 : Nat, l = l2 + 1 := ⟨l - 1, by omega⟩
      obtain ⟨c, -, -, -, q⟩ := hw2
      exact q
    have hmin : ∀ a n : Nat, a < N → 1 ≤ n → n < l → ¬ wlk (edg J) N n a a := fun a n ha hn1 hn hq => by
      obtain ⟨n2, rfl⟩ : ∃ n2 : Nat, n = n2 + 1 := ⟨n - 1, by omega⟩
      have := h3 a (n2 + 1) (by omega) (wlk_fwP hN n2 a a hq)
      omega
    have hlN := ring_le hl1 hbN hw2 hmin
    rcases h with ⟨-, g⟩ | ⟨m, g1, g2, g3, ⟨a, ha, g4⟩, g5⟩
    · exact absurd hw2 (g b l hbN hl1 hlN)
    · rw [g1]
      have q1 : ¬ l < m := fun z => g5 b l hbN hl1 z hw2
      have q2 : ¬ m < l := fun z => hmin a m ha g2 z g4
      rw [show m = l by omega]
  · rw [show l = 99 by omega, if_pos (show nI 99 = 99 from rfl)]
    rcases h with ⟨g, -⟩ | ⟨m, g1, g2, g3, ⟨a, ha, g4⟩, g5⟩
    · exact g
    · obtain ⟨n2, rfl⟩ : ∃ n2 : Nat, m = n2 + 1 := ⟨m - 1, by omega⟩
      have := h3 a (n2 + 1) (by omega) (wlk_fwP hN n2 a a g4)
      omega
