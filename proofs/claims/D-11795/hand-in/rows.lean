section
/-! sums and counts below n -/
def fs_sum (f : Nat → Nat) : Nat → Nat
  | 0 => 0
  | n + 1 => fs_sum f n + f n
def fs_num (p : Nat → Bool) (n : Nat) : Nat := fs_sum (fun k => (p k).toNat) n
theorem fs_sum_congr {f g : Nat → Nat} {n : Nat} (h : ∀ k, k < n → f k = g k) : fs_sum f n = fs_sum g n := by
  induction n with
  | zero => rfl
  | succ n ih =>
    show fs_sum f n + f n = fs_sum g n + g n
    rw [ih (fun k hk => h k (by omega)), h n (by omega)]
theorem fs_sum_zero {f : Nat → Nat} {n : Nat} (h : ∀ k, k < n → f k = 0) : fs_sum f n = 0 := by
  induction n with
  | zero => rfl
  | succ n ih =>
    show fs_sum f n + f n = 0
    rw [ih (fun k hk => h k (by omega)), h n (by omega)]
theorem fs_sum_add (f g : Nat → Nat) (n : Nat) : fs_sum (fun k => f k + g k) n = fs_sum f n + fs_sum g n := by
  induction n with
  | zero => rfl
  | succ n ih =>
    show fs_sum (fun k => f k + g k) n + (f n + g n) = (fs_sum f n + f n) + (fs_sum g n + g n)
    rw [ih]; omega
theorem fs_sum_swap (f : Nat → Nat → Nat) (N n : Nat) : fs_sum (fun x => fs_sum (fun b => f x b) n) N = fs_sum (fun b => fs_sum (fun x => f x b) N) n := by
  induction N with
  | zero => exact (fs_sum_zero (fun k _ => rfl)).symm
  | succ N ih =>
    show fs_sum (fun x => fs_sum (fun b => f x b) n) N + fs_sum (fun b => f N b) n = _
    rw [ih, ← fs_sum_add]
    rfl
theorem fs_sum_one {f : Nat → Nat} {n : Nat} (x : Nat) (hx : x < n) (h1 : f x = 1) (h0 : ∀ k, k < n → k ≠ x → f k = 0) : fs_sum f n = 1 := by
  induction n with
  | zero => exact absurd hx (by omega)
  | succ n ih =>
    show fs_sum f n + f n = 1
    by_cases e : x = n
    · subst e
      rw [fs_sum_zero (fun k hk => h0 k (by omega) (by omega)), h1]
    · rw [ih (by omega) (fun k hk hn => h0 k (by omega) hn), h0 n (by omega) (by omega)]
theorem fs_sum_ite {c : Prop} [Decidable c] {f : Nat → Nat} {n : Nat} : (if c then fs_sum f n else 0) = fs_sum (fun b => if c then f b else 0) n := by
  by_cases h : c
  · rw [if_pos h]; exact fs_sum_congr (fun k _ => (if_pos h).symm)
  · rw [if_neg h]; exact (fs_sum_zero (fun k _ => if_neg h)).symm
theorem fs_sum_le {f g : Nat → Nat} {n : Nat} (h : ∀ k, k < n → f k ≤ g k) : fs_sum f n ≤ fs_sum g n := by
  induction n with
  | zero => exact Nat.le_refl 0
  | succ n ih => exact Nat.add_le_add (ih (fun k hk => h k (by omega))) (h n (by omega))
theorem fs_num_congr {p q : Nat → Bool} {n : Nat} (h : ∀ k, k < n → p k = q k) : fs_num p n = fs_num q n :=
  fs_sum_congr (fun k hk => by rw [h k hk])
theorem fs_num_zero {p : Nat → Bool} {n : Nat} (h : ∀ k, k < n → p k = false) : fs_num p n = 0 :=
  fs_sum_zero (fun k hk => by rw [h k hk]; rfl)
theorem fs_num_le (p : Nat → Bool) (n : Nat) : fs_num p n ≤ n := by
  induction n with
  | zero => exact Nat.le_refl 0
  | succ n ih =>
    show fs_num p n + (p n).toNat ≤ n + 1
    have : (p n).toNat ≤ 1 := by cases p n <;> decide
    omega
theorem fs_num_s (p : Nat → Bool) (n : Nat) : fs_num p (n + 1) = fs_num p n + (p n).toNat := rfl
theorem fs_num_t {p : Nat → Bool} {n : Nat} (h : p n = true) : fs_num p (n + 1) = fs_num p n + 1 := by rw [fs_num_s, h]; rfl
theorem fs_num_f {p : Nat → Bool} {n : Nat} (h : p n = false) : fs_num p (n + 1) = fs_num p n := by rw [fs_num_s, h]; rfl
theorem fs_num_mono {p q : Nat → Bool} {n : Nat} (h : ∀ k, k < n → p k = true → q k = true) : fs_num p n ≤ fs_num q n :=
  fs_sum_le (fun k hk => by
    cases e : p k
    · exact Nat.zero_le _
    · rw [h k hk e]; exact Nat.le_refl _)
theorem fs_num_n {p : Nat → Bool} {m n : Nat} (h : m ≤ n) : fs_num p m ≤ fs_num p n := by
  induction n with
  | zero => rw [show m = 0 by omega]; exact Nat.le_refl _
  | succ n ih =>
    by_cases e : m = n + 1
    · rw [e]; exact Nat.le_refl _
    · exact Nat.le_trans (ih (by omega)) (Nat.le_add_right _ _)
theorem fs_num_stop {p : Nat → Bool} {m n : Nat} (h : m ≤ n) (hp : ∀ k, m ≤ k → k < n → p k = false) : fs_num p n = fs_num p m := by
  induction n with
  | zero => rw [show m = 0 by omega]
  | succ n ih =>
    by_cases e : m = n + 1
    · rw [e]
    · rw [fs_num_f (hp n (by omega) (by omega)), ih (by omega) (fun k h1 h2 => hp k h1 (by omega))]
/-! a basket's things by places: the number of a prefix -/
def fs_pre (a : Nat → Bool) : Nat → Nat
  | 0 => 0
  | q + 1 => fs_pre a q + (a q).toNat * 2 ^ q
theorem fs_pre_t {a : Nat → Bool} {q : Nat} (h : a q = true) : fs_pre a (q + 1) = fs_pre a q + 2 ^ q := by
  show fs_pre a q + (a q).toNat * 2 ^ q = _
  rw [h]; simp
theorem fs_pre_f {a : Nat → Bool} {q : Nat} (h : a q = false) : fs_pre a (q + 1) = fs_pre a q := by
  show fs_pre a q + (a q).toNat * 2 ^ q = _
  rw [h]; simp
theorem fs_pre_lt (a : Nat → Bool) (p : Nat) : fs_pre a p < 2 ^ p := by
  induction p with
  | zero => exact Nat.zero_lt_one
  | succ p ih =>
    have e : 2 ^ (p + 1) = 2 ^ p + 2 ^ p := by rw [Nat.pow_succ]; omega
    cases h : a p
    · rw [fs_pre_f h]; omega
    · rw [fs_pre_t h]; omega
theorem fs_pre_mono (a : Nat → Bool) {k q : Nat} (h : k ≤ q) : fs_pre a k ≤ fs_pre a q := by
  induction q with
  | zero => rw [show k = 0 by omega]; exact Nat.le_refl _
  | succ q ih =>
    by_cases e : k = q + 1
    · rw [e]; exact Nat.le_refl _
    · exact Nat.le_trans (ih (by omega)) (Nat.le_add_right _ _)
theorem fs_pw {a b : Nat} (h : a ≤ b) : 2 ^ a ≤ 2 ^ b := Nat.pow_le_pow_right (by decide) h
theorem fs_pre_small {a : Nat → Bool} {k q : Nat} (h : k ≤ q) (hs : fs_pre a q < 2 ^ k) : fs_pre a k = fs_pre a q := by
  induction q with
  | zero => rw [show k = 0 by omega]
  | succ q ih =>
    by_cases e : k = q + 1
    · rw [e]
    · have hp : 2 ^ k ≤ 2 ^ q := fs_pw (by omega)
      cases ha : a q
      · rw [fs_pre_f ha] at hs ⊢
        exact ih (by omega) hs
      · rw [fs_pre_t ha] at hs
        omega
theorem fs_pre_gap {a : Nat → Bool} {k q : Nat} (h : k ≤ q) (hs : ∀ r, k ≤ r → r < q → a r = false) : fs_pre a k = fs_pre a q := by
  induction q with
  | zero => rw [show k = 0 by omega]
  | succ q ih =>
    by_cases e : k = q + 1
    · rw [e]
    · rw [fs_pre_f (hs q (by omega) (by omega))]
      exact ih (by omega) (fun r h1 h2 => hs r h1 (by omega))
theorem fs_pre_bit {a : Nat → Bool} {q k : Nat} (hk : k < 2 ^ q) (h : fs_pre a (q + 1) = k + 2 ^ q) : a q = true ∧ fs_pre a q = k := by
  have hl := fs_pre_lt a q
  cases ha : a q
  · rw [fs_pre_f ha] at h
    omega
  · rw [fs_pre_t ha] at h
    exact ⟨rfl, by omega⟩
/-! the list of the nodes of one place: the last one below k -/
def fs_pv (pl : Nat → Nat) (t : Nat) : Nat → Nat
  | 0 => 0
  | k + 1 => if pl k = t then k else fs_pv pl t k
theorem fs_pv_lt (pl : Nat → Nat) (t : Nat) {k : Nat} (h : 0 < k) : fs_pv pl t k < k := by
  induction k with
  | zero => omega
  | succ k ih =>
    show (if pl k = t then k else fs_pv pl t k) < k + 1
    by_cases e : pl k = t
    · rw [if_pos e]; omega
    · rw [if_neg e]
      by_cases z : k = 0
      · subst z; exact Nat.zero_lt_one
      · have := ih (by omega); omega
theorem fs_pv_pl {pl : Nat → Nat} {t k : Nat} (h : fs_pv pl t k ≠ 0) : pl (fs_pv pl t k) = t := by
  induction k with
  | zero => exact absurd rfl h
  | succ k ih =>
    have e1 : fs_pv pl t (k + 1) = if pl k = t then k else fs_pv pl t k := rfl
    by_cases e : pl k = t
    · rw [e1, if_pos e]; exact e
    · rw [e1, if_neg e] at h ⊢
      exact ih h
theorem fs_pv_gap {pl : Nat → Nat} {t k y : Nat} (h : fs_pv pl t k < y) (hy : y < k) : pl y ≠ t := by
  induction k with
  | zero => omega
  | succ k ih =>
    have e1 : fs_pv pl t (k + 1) = if pl k = t then k else fs_pv pl t k := rfl
    by_cases e : pl k = t
    · rw [e1, if_pos e] at h; omega
    · rw [e1, if_neg e] at h
      by_cases z : y = k
      · rw [z]; exact e
      · exact ih h (by omega)
theorem fs_pv_congr {pl pl' : Nat → Nat} {t k : Nat} (h : ∀ y, y < k → pl y = pl' y) : fs_pv pl t k = fs_pv pl' t k := by
  induction k with
  | zero => rfl
  | succ k ih =>
    show (if pl k = t then k else fs_pv pl t k) = (if pl' k = t then k else fs_pv pl' t k)
    rw [h k (by omega), ih (fun y hy => h y (by omega))]
theorem fs_pv_t {pl : Nat → Nat} {t k : Nat} (h : pl k = t) : fs_pv pl t (k + 1) = k := if_pos h
theorem fs_pv_f {pl : Nat → Nat} {t k : Nat} (h : pl k ≠ t) : fs_pv pl t (k + 1) = fs_pv pl t k := if_neg h
def fs_ls (f pl : Nat → Nat) (t k : Nat) : Nat := fs_sum (fun y => if pl y = t then f y else 0) k
theorem fs_ls_gap {f pl : Nat → Nat} {t m k : Nat} (h : m ≤ k) (hg : ∀ y, m ≤ y → y < k → pl y ≠ t) : fs_ls f pl t k = fs_ls f pl t m := by
  induction k with
  | zero => rw [show m = 0 by omega]
  | succ k ih =>
    by_cases e : m = k + 1
    · rw [e]
    · show fs_ls f pl t k + (if pl k = t then f k else 0) = _
      rw [if_neg (hg k (by omega) (by omega)), ih (by omega) (fun y h1 h2 => hg y h1 (by omega))]
      rfl
theorem fs_ls_0 {f pl : Nat → Nat} {t k : Nat} (h0 : pl 0 ≠ t) (h : fs_pv pl t k = 0) : fs_ls f pl t k = 0 := by
  rw [fs_ls_gap (m := 0) (by omega) (fun y _ hy => ?_)]
  · rfl
  · by_cases e : y = 0
    · rw [e]; exact h0
    · exact fs_pv_gap (k := k) (by omega) hy
theorem fs_ls_s {f pl : Nat → Nat} {t k : Nat} (h : fs_pv pl t k ≠ 0) : fs_ls f pl t k = fs_ls f pl t (fs_pv pl t k) + f (fs_pv pl t k) := by
  have hk : 0 < k := by
    rcases Nat.eq_zero_or_pos k with z | z
    · subst z; exact absurd rfl h
    · exact z
  have hl := fs_pv_lt pl t hk
  rw [fs_ls_gap (m := fs_pv pl t k + 1) (by omega) (fun y h1 h2 => fs_pv_gap (k := k) (by omega) h2)]
  show fs_ls f pl t (fs_pv pl t k) + (if pl (fs_pv pl t k) = t then f (fs_pv pl t k) else 0) = _
  rw [if_pos (fs_pv_pl h)]
end
section
/-! the tree as numbers: key x: the places on the way to node x as bits; pl x: one more than the place of its thing; ab x: the node above -/
def fs_Tr (N : Nat) (key pl ab : Nat → Nat) : Prop :=
  1 ≤ N ∧ key 0 = 0 ∧ pl 0 = 0 ∧
  (∀ x, 1 ≤ x → x < N → ab x < x ∧ 1 ≤ pl x ∧ pl x ≤ 8 ∧ pl (ab x) < pl x ∧ key x = key (ab x) + 2 ^ (pl x - 1)) ∧
  (∀ x, x < N → key x < 2 ^ pl x) ∧
  (∀ x y, x < N → y < N → key x = key y → x = y)
/-- each thing of each basket has its node -/
def fs_Co (A : Nat → Nat → Bool) (n N : Nat) (key pl : Nat → Nat) : Prop :=
  ∀ b, b < n → ∀ q, q < 8 → A b q = true → ∃ x, x < N ∧ pl x = q + 1 ∧ key x = fs_pre (A b) (q + 1)
def fs_ps (A : Nat → Nat → Bool) (key pl : Nat → Nat) (b x : Nat) : Bool := decide (fs_pre (A b) (pl x) = key x)
theorem fs_ps_iff {A : Nat → Nat → Bool} {key pl : Nat → Nat} {b x : Nat} : fs_ps A key pl b x = true ↔ fs_pre (A b) (pl x) = key x := decide_eq_true_iff
/-- a basket through a node goes through the node above, and has the node's thing -/
theorem fs_up {A : Nat → Nat → Bool} {N b y : Nat} {key pl ab : Nat → Nat} (hT : fs_Tr N key pl ab) (h1 : 1 ≤ y) (hy : y < N) (h : fs_ps A key pl b y = true) :
    fs_ps A key pl b (ab y) = true ∧ A b (pl y - 1) = true := by
  obtain ⟨_, _, _, t4, t5, _⟩ := hT
  obtain ⟨u1, u2, u3, u4, u5⟩ := t4 y h1 hy
  have k1 := t5 (ab y) (by omega)
  rw [fs_ps_iff] at h ⊢
  obtain ⟨q, hq⟩ : ∃ q, pl y = q + 1 := ⟨pl y - 1, by omega⟩
  rw [hq] at h u4 u5 ⊢
  rw [Nat.add_sub_cancel] at u5 ⊢
  have hpw : 2 ^ pl (ab y) ≤ 2 ^ q := fs_pw (by omega)
  obtain ⟨w1, w2⟩ := fs_pre_bit (a := A b) (q := q) (k := key (ab y)) (by omega) (by rw [h, u5])
  refine ⟨?_, w1⟩
  rw [fs_pre_small (q := q) (by omega) (by rw [w2]; exact k1), w2]
/-- a basket goes through at most one node below a node -/
theorem fs_ch1 {A : Nat → Nat → Bool} {N b x y z : Nat} {key pl ab : Nat → Nat} (hT : fs_Tr N key pl ab) (h1 : 1 ≤ y) (hy : y < N) (g1 : 1 ≤ z) (hz : z < N) (ey : ab y = x) (ez : ab z = x)
    (py : fs_ps A key pl b y = true) (pz : fs_ps A key pl b z = true) : y = z := by
  have key1 : ∀ y z, 1 ≤ y → y < N → 1 ≤ z → z < N → ab y = x → ab z = x → fs_ps A key pl b y = true → fs_ps A key pl b z = true → ¬ pl y < pl z := by
    intro y z h1 hy g1 hz ey ez py pz hlt
    obtain ⟨_, _, _, t4, t5, _⟩ := hT
    obtain ⟨u1, u2, u3, u4, u5⟩ := t4 y h1 hy
    obtain ⟨v1, v2, v3, v4, v5⟩ := t4 z g1 hz
    rw [fs_ps_iff] at py pz
    obtain ⟨q, hq⟩ : ∃ q, pl z = q + 1 := ⟨pl z - 1, by omega⟩
    have k1 := t5 (ab z) (by omega)
    rw [hq] at pz v4 v5 hlt
    rw [Nat.add_sub_cancel] at v5
    have hpw : 2 ^ pl (ab z) ≤ 2 ^ q := fs_pw (by omega)
    obtain ⟨_, w2⟩ := fs_pre_bit (a := A b) (q := q) (k := key (ab z)) (by omega) (by rw [pz, v5])
    have m := fs_pre_mono (A b) (k := pl y) (q := q) (by omega)
    rw [py, w2, u5, ey, ez] at m
    have : 0 < 2 ^ (pl y - 1) := Nat.pow_pos (by decide)
    omega
  have a1 := key1 y z h1 hy g1 hz ey ez py pz
  have a2 := key1 z y g1 hz h1 hy ez ey pz py
  have e : pl y = pl z := by omega
  rw [fs_ps_iff] at py pz
  obtain ⟨_, _, _, _, _, t6⟩ := hT
  exact t6 y z hy hz (by rw [← py, ← pz, e])
/-- a basket through x that has a thing at a later place p goes through some node below x, of a place up to p -/
theorem fs_ch2 {A : Nat → Nat → Bool} {n N b x p : Nat} {key pl ab : Nat → Nat} (hT : fs_Tr N key pl ab) (hC : fs_Co A n N key pl) (hb : b < n) (hx : x < N) (hp : p < 8) (hxp : pl x ≤ p)
    (hA : A b p = true) (h : fs_ps A key pl b x = true) : ∃ y, 1 ≤ y ∧ y < N ∧ ab y = x ∧ pl y ≤ p + 1 ∧ fs_ps A key pl b y = true := by
  obtain ⟨q, ⟨q1, q2⟩, q3⟩ := pk_least (fun k => pl x ≤ k ∧ A b k = true) ⟨p, hxp, hA⟩
  have hqp : q ≤ p := by
    rcases Nat.lt_or_ge p q with z | z
    · exact absurd ⟨hxp, hA⟩ (q3 p z)
    · exact z
  obtain ⟨y, y1, y2, y3⟩ := hC b hb q (by omega) q2
  rw [fs_ps_iff] at h
  obtain ⟨_, _, t3, t4, t5, t6⟩ := hT
  have hy0 : 1 ≤ y := by
    rcases Nat.eq_zero_or_pos y with z | z
    · rw [z, t3] at y2; omega
    · exact z
  obtain ⟨u1, u2, u3, u4, u5⟩ := t4 y hy0 y1
  refine ⟨y, hy0, y1, ?_, by omega, by rw [fs_ps_iff, y2, y3]⟩
  apply t6 (ab y) x (by omega) hx
  rw [y2, Nat.add_sub_cancel, y3, fs_pre_t q2] at u5
  have g : fs_pre (A b) (pl x) = fs_pre (A b) q := fs_pre_gap q1 (fun r h1 h2 => by
    cases e : A b r
    · rfl
    · exact absurd ⟨h1, e⟩ (q3 r h2))
  omega
/-- the nodes of a place: each basket that has the place's thing goes through one of them, the others through none -/
theorem fs_id1 {A : Nat → Nat → Bool} {n N p : Nat} {key pl ab : Nat → Nat} (hT : fs_Tr N key pl ab) (hC : fs_Co A n N key pl) (hp : p < 8) (G : Nat → Bool) :
    fs_ls (fun x => fs_num (fun b => G b && fs_ps A key pl b x) n) pl (p + 1) N = fs_num (fun b => G b && A b p) n := by
  unfold fs_ls fs_num
  rw [fs_sum_congr (fun y _ => fs_sum_ite (c := pl y = p + 1) (f := fun b => (G b && fs_ps A key pl b y).toNat) (n := n))]
  rw [fs_sum_swap (fun y b => if pl y = p + 1 then (G b && fs_ps A key pl b y).toNat else 0) N n]
  apply fs_sum_congr
  intro b hb
  dsimp only
  have hT' := hT
  obtain ⟨_, _, t3, t4, t5, t6⟩ := hT'
  by_cases hg : (G b && A b p) = true
  · rw [hg]
    rw [Bool.and_eq_true] at hg
    obtain ⟨y, y1, y2, y3⟩ := hC b hb p hp hg.2
    refine fs_sum_one y y1 ?_ ?_
    · show (if pl y = p + 1 then (G b && fs_ps A key pl b y).toNat else 0) = 1
      rw [if_pos y2, hg.1, fs_ps_iff.mpr (by rw [y2, y3])]
      rfl
    · intro k hk hn
      show (if pl k = p + 1 then (G b && fs_ps A key pl b k).toNat else 0) = 0
      by_cases e : pl k = p + 1
      · rw [if_pos e]
        cases f : fs_ps A key pl b k
        · rw [Bool.and_false]; rfl
        · rw [fs_ps_iff, e, ← y3] at f
          exact absurd (t6 y k y1 hk f).symm hn
      · rw [if_neg e]
  · have hg' : (G b && A b p) = false := by
      cases e : (G b && A b p)
      · rfl
      · exact absurd e hg
    rw [hg']
    refine fs_sum_zero (fun k hk => ?_)
    show (if pl k = p + 1 then (G b && fs_ps A key pl b k).toNat else 0) = 0
    by_cases e : pl k = p + 1
    · rw [if_pos e]
      have k0 : 1 ≤ k := by
        rcases Nat.eq_zero_or_pos k with z | z
        · rw [z, t3] at e; omega
        · exact z
      cases f : fs_ps A key pl b k
      · rw [Bool.and_false]; rfl
      · have u := (fs_up hT k0 hk f).2
        rw [e, Nat.add_sub_cancel] at u
        rw [u, Bool.and_true] at hg'
        rw [hg']; rfl
    · rw [if_neg e]
/-- what a node's weight is to be once the weights of the nodes of place p are passed up -/
def fs_W (A : Nat → Nat → Bool) (G : Nat → Bool) (n p : Nat) (key pl : Nat → Nat) (x : Nat) : Nat :=
  if pl x ≤ p + 1 then fs_num (fun b => (G b && A b p) && fs_ps A key pl b x) n else 0
def fs_V (A : Nat → Nat → Bool) (G : Nat → Bool) (n p : Nat) (key pl : Nat → Nat) (x : Nat) : Nat :=
  if pl x = p + 1 then fs_num (fun b => G b && fs_ps A key pl b x) n else 0
theorem fs_W_le (A : Nat → Nat → Bool) (G : Nat → Bool) (n p : Nat) (key pl : Nat → Nat) (x : Nat) : fs_W A G n p key pl x ≤ n := by
  unfold fs_W
  by_cases h : pl x ≤ p + 1
  · rw [if_pos h]; exact fs_num_le _ _
  · rw [if_neg h]; exact Nat.zero_le _
theorem fs_id2 {A : Nat → Nat → Bool} {n N p x : Nat} {key pl ab : Nat → Nat} (hT : fs_Tr N key pl ab) (hC : fs_Co A n N key pl) (hp : p < 8) (hx : x < N) (G : Nat → Bool) :
    fs_W A G n p key pl x = fs_V A G n p key pl x + fs_sum (fun y => if 1 ≤ y ∧ ab y = x then fs_W A G n p key pl y else 0) N := by
  have hT' := hT
  obtain ⟨_, _, t3, t4, t5, t6⟩ := hT'
  rcases Nat.lt_or_ge p (pl x) with hlt | hge
  · -- at place p or behind it
    have hz : fs_sum (fun y => if 1 ≤ y ∧ ab y = x then fs_W A G n p key pl y else 0) N = 0 := by
      refine fs_sum_zero (fun y hy => ?_)
      show (if 1 ≤ y ∧ ab y = x then fs_W A G n p key pl y else 0) = 0
      by_cases e : 1 ≤ y ∧ ab y = x
      · rw [if_pos e]
        obtain ⟨u1, u2, u3, u4, u5⟩ := t4 y e.1 hy
        rw [e.2] at u4
        exact if_neg (by omega)
      · rw [if_neg e]
    rw [hz, Nat.add_zero]
    unfold fs_W fs_V
    by_cases e : pl x = p + 1
    · rw [if_pos e, if_pos (by omega)]
      refine fs_num_congr (fun b hb => ?_)
      have k0 : 1 ≤ x := by
        rcases Nat.eq_zero_or_pos x with z | z
        · rw [z, t3] at e; omega
        · exact z
      cases f : fs_ps A key pl b x
      · rw [Bool.and_false, Bool.and_false]
      · have u := (fs_up hT k0 hx f).2
        rw [e, Nat.add_sub_cancel] at u
        rw [u, Bool.and_true]
    · rw [if_neg e, if_neg (by omega)]
  · -- above place p
    have hv : fs_V A G n p key pl x = 0 := if_neg (by omega)
    rw [hv, Nat.zero_add]
    have hw : fs_W A G n p key pl x = fs_num (fun b => (G b && A b p) && fs_ps A key pl b x) n := if_pos (by omega)
    have hs : ∀ y, y < N → (if 1 ≤ y ∧ ab y = x then fs_W A G n p key pl y else 0) = fs_sum (fun b => if (1 ≤ y ∧ ab y = x) ∧ pl y ≤ p + 1 then ((G b && A b p) && fs_ps A key pl b y).toNat else 0) n := by
      intro y hy
      rw [← fs_sum_ite]
      unfold fs_W fs_num
      by_cases e : 1 ≤ y ∧ ab y = x
      · by_cases e2 : pl y ≤ p + 1
        · rw [if_pos e, if_pos e2, if_pos ⟨e, e2⟩]
        · rw [if_pos e, if_neg e2, if_neg (fun z => e2 z.2)]
      · rw [if_neg e, if_neg (fun z => e z.1)]
    rw [hw, fs_sum_congr hs, fs_sum_swap (fun y b => if (1 ≤ y ∧ ab y = x) ∧ pl y ≤ p + 1 then ((G b && A b p) && fs_ps A key pl b y).toNat else 0) N n]
    unfold fs_num
    apply fs_sum_congr
    intro b hb
    dsimp only
    by_cases hg : ((G b && A b p) && fs_ps A key pl b x) = true
    · rw [hg]
      rw [Bool.and_eq_true] at hg
      obtain ⟨y, y1, y2, y3, y4, y5⟩ := fs_ch2 hT hC hb hx hp hge (by have := hg.1; rw [Bool.and_eq_true] at this; exact this.2) hg.2
      refine (fs_sum_one y y2 ?_ ?_).symm
      · show (if (1 ≤ y ∧ ab y = x) ∧ pl y ≤ p + 1 then ((G b && A b p) && fs_ps A key pl b y).toNat else 0) = 1
        rw [if_pos ⟨⟨y1, y3⟩, y4⟩, hg.1, y5]
        rfl
      · intro k hk hn
        show (if (1 ≤ k ∧ ab k = x) ∧ pl k ≤ p + 1 then ((G b && A b p) && fs_ps A key pl b k).toNat else 0) = 0
        by_cases e : (1 ≤ k ∧ ab k = x) ∧ pl k ≤ p + 1
        · rw [if_pos e]
          cases f : fs_ps A key pl b k
          · rw [Bool.and_false]; rfl
          · exact absurd (fs_ch1 hT e.1.1 hk y1 y2 e.1.2 y3 f y5) hn
        · rw [if_neg e]
    · have hg' : ((G b && A b p) && fs_ps A key pl b x) = false := by
        cases e : ((G b && A b p) && fs_ps A key pl b x)
        · rfl
        · exact absurd e hg
      rw [hg']
      refine (fs_sum_zero (fun k hk => ?_)).symm
      show (if (1 ≤ k ∧ ab k = x) ∧ pl k ≤ p + 1 then ((G b && A b p) && fs_ps A key pl b k).toNat else 0) = 0
      by_cases e : (1 ≤ k ∧ ab k = x) ∧ pl k ≤ p + 1
      · rw [if_pos e]
        cases f : fs_ps A key pl b k
        · rw [Bool.and_false]; rfl
        · have u := (fs_up hT e.1.1 hk f).1
          rw [e.1.2] at u
          rw [u, Bool.and_true] at hg'
          rw [hg']; rfl
      · rw [if_neg e]
end
section
/-! sets as numbers below 256 -/
def fs_sub (s b : Nat) : Bool := decide (s &&& b = s)
def fs_cnt (B : Nat → Nat) (n s : Nat) : Nat := fs_num (fun k => fs_sub s (B k)) n
theorem fs_sub_iff {s b : Nat} : fs_sub s b = true ↔ ∀ i, s.testBit i = true → b.testBit i = true := by
  unfold fs_sub
  rw [decide_eq_true_iff]
  constructor
  · intro h i hi
    have e : (s &&& b).testBit i = s.testBit i := by rw [h]
    rw [Nat.testBit_and, hi, Bool.true_and] at e
    exact e
  · intro h
    apply Nat.eq_of_testBit_eq
    intro i
    rw [Nat.testBit_and]
    cases e : s.testBit i
    · rfl
    · rw [h i e]; rfl
theorem fs_bit_or (S t i : Nat) : (S ||| 2 ^ t).testBit i = (S.testBit i || decide (t = i)) := by
  rw [Nat.testBit_or, Nat.testBit_two_pow]
theorem fs_sub_or (S t b : Nat) : fs_sub (S ||| 2 ^ t) b = (fs_sub S b && b.testBit t) := by
  rw [Bool.eq_iff_iff, Bool.and_eq_true, fs_sub_iff, fs_sub_iff]
  constructor
  · intro h
    refine ⟨fun i hi => h i ?_, h t ?_⟩
    · rw [fs_bit_or, hi]; rfl
    · rw [fs_bit_or, decide_eq_true rfl, Bool.or_true]
  · intro h i hi
    rw [fs_bit_or, Bool.or_eq_true, decide_eq_true_iff] at hi
    rcases hi with z | z
    · exact h.1 i z
    · rw [← z]; exact h.2
theorem fs_sub_0 (b : Nat) : fs_sub 0 b = true := fs_sub_iff.mpr (fun i hi => by rw [Nat.zero_testBit] at hi; exact absurd hi (by decide))
theorem fs_sub_self (s : Nat) : fs_sub s s = true := fs_sub_iff.mpr (fun i hi => hi)
theorem fs_sub_trans {s t u : Nat} (h : fs_sub s t = true) (g : fs_sub t u = true) : fs_sub s u = true := by
  rw [fs_sub_iff] at h g ⊢
  exact fun i hi => g i (h i hi)
theorem fs_cnt_mono {B : Nat → Nat} {n s t : Nat} (h : fs_sub s t = true) : fs_cnt B n t ≤ fs_cnt B n s :=
  fs_num_mono (fun k _ g => fs_sub_trans h g)
theorem fs_cnt_le (B : Nat → Nat) (n s : Nat) : fs_cnt B n s ≤ n := fs_num_le _ _
theorem fs_cnt_0 (B : Nat → Nat) (n : Nat) : fs_cnt B n 0 = n := by
  induction n with
  | zero => rfl
  | succ n ih =>
    have : fs_cnt B (n + 1) 0 = fs_cnt B n 0 + 1 := fs_num_t (p := fun k => fs_sub 0 (B k)) (fs_sub_0 _)
    rw [this, ih]
theorem fs_hi {s i : Nat} (hs : s < 256) (hi : 8 ≤ i) : s.testBit i = false :=
  Nat.testBit_lt_two_pow (Nat.lt_of_lt_of_le hs (fs_pw (a := 8) hi))
theorem fs_or_lt {S t : Nat} (hS : S < 256) (ht : t < 8) : S ||| 2 ^ t < 256 :=
  Nat.or_lt_two_pow (n := 8) hS (Nat.pow_lt_pow_right (by decide) ht)
/-! the order of things -/
def fs_Pm (od : Nat → Nat) : Prop := (∀ q, q < 8 → od q < 8) ∧ (∀ q r, q < 8 → r < 8 → od q = od r → q = r) ∧ (∀ t, t < 8 → ∃ q, q < 8 ∧ od q = t)
/-- s has S's things at the places from k on -/
def fs_R (od : Nat → Nat) (S k s : Nat) : Prop := ∀ q, k ≤ q → q < 8 → s.testBit (od q) = S.testBit (od q)
/-- S has no thing at a place below k -/
def fs_Lo (od : Nat → Nat) (S k : Nat) : Prop := ∀ q, q < k → S.testBit (od q) = false
theorem fs_R_8 (od : Nat → Nat) (S s : Nat) : fs_R od S 8 s := fun q h1 h2 => absurd h1 (by omega)
theorem fs_R_0 {od : Nat → Nat} {S s : Nat} (hP : fs_Pm od) (hS : S < 256) (hs : s < 256) (h : fs_R od S 0 s) : s = S := by
  apply Nat.eq_of_testBit_eq
  intro i
  rcases Nat.lt_or_ge i 8 with z | z
  · obtain ⟨q, q1, q2⟩ := hP.2.2 i z
    rw [← q2]
    exact h q (by omega) q1
  · rw [fs_hi hs z, fs_hi hS z]
theorem fs_R_self (od : Nat → Nat) (S k : Nat) : fs_R od S k S := fun _ _ _ => rfl
theorem fs_R_or {od : Nat → Nat} {S k s : Nat} (hP : fs_Pm od) (hk : k < 8) (h : fs_R od S (k + 1) s) (hS : S.testBit (od k) = false) : fs_R od S k s ∨ fs_R od (S ||| 2 ^ od k) k s := by
  cases e : s.testBit (od k)
  · left
    intro q h1 h2
    by_cases z : q = k
    · rw [z, e, hS]
    · exact h q (by omega) h2
  · right
    intro q h1 h2
    rw [fs_bit_or]
    by_cases z : q = k
    · rw [z, e, decide_eq_true rfl, Bool.or_true]
    · rw [h q (by omega) h2, decide_eq_false (fun w => z (hP.2.1 k q hk h2 w).symm), Bool.or_false]
theorem fs_R_lo {od : Nat → Nat} {S k s : Nat} (h : fs_R od S k s) : fs_R od S (k + 1) s := fun q h1 h2 => h q (by omega) h2
theorem fs_R_hi {od : Nat → Nat} {S k s : Nat} (hP : fs_Pm od) (hk : k < 8) (h : fs_R od (S ||| 2 ^ od k) k s) : fs_R od S (k + 1) s := by
  intro q h1 h2
  rw [h q (by omega) h2, fs_bit_or, decide_eq_false (fun w => absurd (hP.2.1 k q hk h2 w) (by omega)), Bool.or_false]
theorem fs_R_dis {od : Nat → Nat} {S k s : Nat} (hk : k < 8) (hS : S.testBit (od k) = false) (h : fs_R od S k s) : ¬ fs_R od (S ||| 2 ^ od k) k s := by
  intro g
  have e1 := h k (by omega) hk
  rw [g k (by omega) hk, fs_bit_or, decide_eq_true rfl, Bool.or_true, hS] at e1
  exact absurd e1 (by decide)
theorem fs_R_sub {od : Nat → Nat} {S k s : Nat} (hP : fs_Pm od) (hS : S < 256) (hL : fs_Lo od S k) (h : fs_R od S k s) : fs_sub S s = true := by
  rw [fs_sub_iff]
  intro i hi
  rcases Nat.lt_or_ge i 8 with z | z
  · obtain ⟨q, q1, q2⟩ := hP.2.2 i z
    rw [← q2] at hi ⊢
    rcases Nat.lt_or_ge q k with w | w
    · rw [hL q w] at hi
      exact absurd hi (by decide)
    · rw [h q w q1, hi]
  · rw [fs_hi hS z] at hi
    exact absurd hi (by decide)
theorem fs_Lo_le {od : Nat → Nat} {S k : Nat} (h : fs_Lo od S (k + 1)) : fs_Lo od S k := fun q hq => h q (by omega)
theorem fs_Lo_or {od : Nat → Nat} {S k : Nat} (hP : fs_Pm od) (hk : k < 8) (h : fs_Lo od S (k + 1)) : fs_Lo od (S ||| 2 ^ od k) k := by
  intro q hq
  rw [fs_bit_or, h q (by omega), decide_eq_false (fun w => absurd (hP.2.1 k q hk (by omega) w) (by omega))]
  rfl
/-! ints -/
theorem fs_i1 : ∀ s, s < 256 → ∀ t, t < 8 → ((nI s >>> (nI t &&& 31)) &&& 1) = nI (s.testBit t).toNat := by decide +kernel
theorem fs_i2 : ∀ s, s < 256 → ∀ t, t < 8 → nI s ||| ((1 : Int32) <<< (nI t &&& 31)) = nI (s ||| 2 ^ t) := by decide +kernel
theorem fs_i3 : ∀ v, v < 128 → (nI v).toInt8.toInt32 = nI v := by decide +kernel
theorem fs_i4 : ∀ v, v < 256 → (nI v).toInt16.toInt32 = nI v := by decide +kernel
theorem fs_n8 {v : Nat} (h : v < 128) : vp_nar .byte (nI v) = nI v := by rw [vp_nar_byte, fs_i3 v h]
theorem fs_n16 {v : Nat} (h : v < 256) : vp_nar .short (nI v) = nI v := by rw [vp_nar_short, fs_i4 v h]
def fs_g : Nat → Int32
  | 0 => -1
  | k + 1 => nI k
theorem fs_g1 : ∀ k, k < 8 → (nI k - 1).toInt8.toInt32 = fs_g k := by decide +kernel
/-- a bit of a set decides -/
theorem fs_ib {x y : Int32} {A B : Prop} (s t : Nat) (hs : s < 256) (ht : t < 8) (f : s.testBit t = false → A) (g : s.testBit t = true → B) (hx : x = nI s := by rfl) (hy : y = nI t := by rfl) :
    (((x >>> (y &&& 31)) &&& 1) = 0 → A) ∧ (¬ ((x >>> (y &&& 31)) &&& 1) = 0 → B) := by
  subst hx hy
  rw [fs_i1 s hs t ht]
  cases e : s.testBit t
  · exact br_t (by rfl) (f e)
  · exact br_f (by decide) (g e)
end
section
/-! orderThings: whatever the numbers say, the order becomes a permutation -/
def fs_Pk (k : Nat) (o : Nat → Nat) : Prop := (∀ q, q < k → o q < k) ∧ (∀ q r, q < k → r < k → o q = o r → q = r) ∧ (∀ t, t < k → ∃ q, q < k ∧ o q = t)
theorem fs_Pk_ins {t at_ : Nat} {o o' : Nat → Nat} (h : fs_Pk t o) (hat : at_ ≤ t) (h1 : ∀ q, q < at_ → o' q = o q) (h2 : o' at_ = t) (h3 : ∀ q, at_ < q → q ≤ t → o' q = o (q - 1)) : fs_Pk (t + 1) o' := by
  obtain ⟨p1, p2, p3⟩ := h
  have v : ∀ q, q < t + 1 → (q < at_ ∧ o' q = o q) ∨ (q = at_ ∧ o' q = t) ∨ (at_ < q ∧ o' q = o (q - 1)) := by
    intro q hq
    rcases Nat.lt_trichotomy q at_ with z | z | z
    · exact Or.inl ⟨z, h1 q z⟩
    · exact Or.inr (Or.inl ⟨z, by rw [z]; exact h2⟩)
    · exact Or.inr (Or.inr ⟨z, h3 q z (by omega)⟩)
  refine ⟨fun q hq => ?_, fun q r hq hr e => ?_, fun w hw => ?_⟩
  · rcases v q hq with ⟨z, e⟩ | ⟨z, e⟩ | ⟨z, e⟩
    · have := p1 q (by omega); omega
    · omega
    · have := p1 (q - 1) (by omega); omega
  · rcases v q hq with ⟨z, f⟩ | ⟨z, f⟩ | ⟨z, f⟩ <;> rcases v r hr with ⟨y, g⟩ | ⟨y, g⟩ | ⟨y, g⟩
    · exact p2 q r (by omega) (by omega) (by omega)
    · have := p1 q (by omega); omega
    · have := p2 q (r - 1) (by omega) (by omega) (by omega); omega
    · have := p1 r (by omega); omega
    · omega
    · have := p1 (r - 1) (by omega); omega
    · have := p2 (q - 1) r (by omega) (by omega) (by omega); omega
    · have := p1 (q - 1) (by omega); omega
    · have := p2 (q - 1) (r - 1) (by omega) (by omega) (by omega); omega
  · by_cases e : w = t
    · exact ⟨at_, by omega, by rw [h2, e]⟩
    · obtain ⟨q, q1, q2⟩ := p3 w (by omega)
      rcases Nat.lt_or_ge q at_ with z | z
      · exact ⟨q, by omega, by rw [h1 q z, q2]⟩
      · exact ⟨q + 1, by omega, by rw [h3 (q + 1) (by omega) (by omega)]; exact q2⟩
theorem fs_o129 {post : St2 → Prop} {f0 f1 f2 : Int32} {a1 a2 a3 a4 a5 a6 a7 a8 a9 a10 a11 a12 a13 : Nat → Int32} (hr : ∀ q, q < 8 → ∃ t, t < 8 ∧ a7 q = nI t) (H : ∀ b8, post (f0, f1, f2, a1, a2, a3, a4, a5, a6, a7, b8, a9, a10, a11, a12, a13)) : ∃ n, wX_orderThings_129 post f0 f1 f2 n 0 a1 a2 a3 a4 a5 a6 a7 a8 a9 a10 a11 a12 a13 :=
  pk_loop (fun n i s => wX_orderThings_129 post f0 f1 f2 n (nI i) a1 a2 a3 a4 a5 a6 a7 s a9 a10 a11 a12 a13) (fun _ _ => True) 8 0 a8 (by omega) trivial
    (fun n s _ => pk_le 8 8 (fun _ => H s) (fun z => absurd z (by omega)))
    (fun n i s hi _ hw => pk_le 8 i (fun z => absurd z (by omega)) (fun _ => ⟨pk_in i 8 hi, by
      rw [nI_clamp (by omega)]
      obtain ⟨t, ht, e⟩ := hr i hi
      exact pk_in t 8 ht e, nm_e (nm_r (nI_1 i) (hw _ trivial))⟩))
theorem fs_o113 {post : St2 → Prop} {J : Int32 → (Nat → Int32) → (Nat → Int32) → (Nat → Int32) → (Nat → Int32) → (Nat → Int32) → (Nat → Int32) → (Nat → Int32) → (Nat → Int32) → (Nat → Int32) → (Nat → Int32) → (Nat → Int32) → (Nat → Int32) → (Nat → Int32) → Prop} {f0 f1 f2 : Int32} {a1 a2 a3 a4 a5 a6 a7 a8 a9 a10 a11 a12 a13 : Nat → Int32} {t at_ : Nat} (ht : t < 8) (hat : at_ ≤ t)
    (H : J (nI (t + 1)) a1 a2 a3 a4 a5 a6 (upd a7 at_ (nI t)) a8 a9 a10 a11 a12 a13) : wX_orderThings_113 post J (nI t) (nI at_) f0 f1 f2 a1 a2 a3 a4 a5 a6 a7 a8 a9 a10 a11 a12 a13 :=
  ⟨pk_in at_ 8 (by omega), nm_r (by rw [nI_clamp (by omega), fs_i3 t (by omega)]) (nm_r (nI_1 t) H)⟩
theorem fs_o67 {post : St2 → Prop} {J : Int32 → (Nat → Int32) → (Nat → Int32) → (Nat → Int32) → (Nat → Int32) → (Nat → Int32) → (Nat → Int32) → (Nat → Int32) → (Nat → Int32) → (Nat → Int32) → (Nat → Int32) → (Nat → Int32) → (Nat → Int32) → (Nat → Int32) → Prop} {f0 f1 f2 : Int32} {a1 a2 a3 a4 a5 a6 a7 a8 a9 a10 a11 a12 a13 : Nat → Int32} {t : Nat} {o : Nat → Nat} (ht : t < 8)
    (ho : ∀ q, q < t → o q < t ∧ a7 q = nI (o q))
    (H : ∀ at_ b7, at_ ≤ t → (∀ q, q < at_ → b7 q = nI (o q)) → b7 at_ = nI t → (∀ q, at_ < q → q ≤ t → b7 q = nI (o (q - 1))) → J (nI (t + 1)) a1 a2 a3 a4 a5 a6 b7 a8 a9 a10 a11 a12 a13) :
    ∃ n, wX_orderThings_67 post J (nI t) f0 f1 f2 n (nI t) a1 a2 a3 a4 a5 a6 a7 a8 a9 a10 a11 a12 a13 := by
  have hJ : ∀ i s, i ≤ t → (∀ q, q < i → s q = nI (o q)) → (∀ q, i < q → q ≤ t → s q = nI (o (q - 1))) → wX_orderThings_113 post J (nI t) (nI i) f0 f1 f2 a1 a2 a3 a4 a5 a6 s a8 a9 a10 a11 a12 a13 := by
    intro i s h1 h2 h3
    refine fs_o113 ht h1 (H i (upd s i (nI t)) h1 (fun q hq => ?_) pk_us (fun q q1 q2 => ?_))
    · rw [pk_un (by omega)]; exact h2 q hq
    · rw [pk_un (by omega)]; exact h3 q q1 q2
  refine ⟨t + 1, pk_loopD (fun n i s => wX_orderThings_67 post J (nI t) f0 f1 f2 n (nI i) a1 a2 a3 a4 a5 a6 s a8 a9 a10 a11 a12 a13) (fun i s => i ≤ t ∧ (∀ q, q < i → s q = nI (o q)) ∧ (∀ q, i < q → q ≤ t → s q = nI (o (q - 1)))) ?_ ?_ t a7 ⟨Nat.le_refl t, fun q hq => (ho q hq).2, fun q q1 q2 => absurd q1 (by omega)⟩⟩
  · intro n s hI
    obtain ⟨h1, h2, h3⟩ := hI
    exact pk_le 0 0 (fun _ => hJ 0 s h1 h2 h3) (fun z => absurd z (by omega))
  · intro n i s hI hw
    obtain ⟨h1, h2, h3⟩ := hI
    have e1 : (nI (i + 1) - 1).toNatClampNeg = i := pk_cl i (nI_pred i)
    have e2 : s (nI (i + 1) - 1).toNatClampNeg = nI (o i) := by rw [e1]; exact h2 i (by omega)
    have hoi := (ho i (by omega)).1
    refine pk_le (i + 1) 0 (fun z => absurd z (by omega)) (fun _ => ⟨pk_in i 8 (by omega) (nI_pred i), pk_in (o i) 8 (by omega) e2, pk_in t 8 ht, br_c (fun _ => hJ (i + 1) s h1 h2 h3) (fun _ => ⟨pk_in i 8 (by omega) (nI_pred i), pk_in (i + 1) 8 (by omega), ?_⟩)⟩)
    refine nm_r (show upd s (nI (i + 1)).toNatClampNeg (vp_nar .byte (s (nI (i + 1) - 1).toNatClampNeg)) = upd s (i + 1) (nI (o i)) by rw [e2, nI_clamp (by omega), fs_n8 (by omega)]) (nm_r (pk_m1 i) (hw _ ⟨by omega, fun q hq => ?_, fun q q1 q2 => ?_⟩))
    · rw [pk_un (by omega)]; exact h2 q (by omega)
    · by_cases e : q = i + 1
      · rw [e, pk_us]; rfl
      · rw [pk_un e]; exact h3 q (by omega) q2
theorem fs_o59 {post : St2 → Prop} {f0 f1 f2 : Int32} {a1 a2 a3 a4 a5 a6 a7 a8 a9 a10 a11 a12 a13 : Nat → Int32} (H : ∀ b7 b8 od, fs_Pm od → (∀ q, q < 8 → b7 q = nI (od q)) → post (f0, f1, f2, a1, a2, a3, a4, a5, a6, b7, b8, a9, a10, a11, a12, a13)) : ∃ n, wX_orderThings_59 post f0 f1 f2 n 0 a1 a2 a3 a4 a5 a6 a7 a8 a9 a10 a11 a12 a13 := by
  refine pk_loop (fun n i s => wX_orderThings_59 post f0 f1 f2 n (nI i) a1 a2 a3 a4 a5 a6 s a8 a9 a10 a11 a12 a13) (fun i s => ∃ o, fs_Pk i o ∧ ∀ q, q < i → s q = nI (o q)) 8 0 a7 (by omega)
    ⟨fun _ => 0, ⟨fun q hq => absurd hq (by omega), fun q r hq => absurd hq (by omega), fun q hq => absurd hq (by omega)⟩, fun q hq => absurd hq (by omega)⟩ ?_ ?_
  · intro n s hI
    obtain ⟨o, h1, h2⟩ := hI
    exact pk_le 8 8 (fun _ => fs_o129 (fun q hq => ⟨o q, h1.1 q hq, h2 q hq⟩) (fun b8 => H s b8 o h1 h2)) (fun z => absurd z (by omega))
  · intro n i s hi hI hw
    obtain ⟨o, h1, h2⟩ := hI
    refine pk_le 8 i (fun z => absurd z (by omega)) (fun _ => fs_o67 (o := o) hi (fun q hq => ⟨h1.1 q hq, h2 q hq⟩) (fun at_ b7 hat g1 g2 g3 => hw b7 ⟨fun q => if q < at_ then o q else if q = at_ then i else o (q - 1), ?_, ?_⟩))
    · refine fs_Pk_ins h1 hat (fun q hq => if_pos hq) ?_ (fun q q1 q2 => ?_)
      · show (if at_ < at_ then o at_ else if at_ = at_ then i else o (at_ - 1)) = i
        rw [if_neg (by omega), if_pos rfl]
      · show (if q < at_ then o q else if q = at_ then i else o (q - 1)) = _
        rw [if_neg (by omega), if_neg (by omega)]
    · intro q hq
      show b7 q = nI (if q < at_ then o q else if q = at_ then i else o (q - 1))
      rcases Nat.lt_trichotomy q at_ with z | z | z
      · rw [if_pos z]; exact g1 q z
      · rw [if_neg (by omega), if_pos z, z]; exact g2
      · rw [if_neg (by omega), if_neg (by omega)]; exact g3 q z (by omega)
theorem fs_o17 {post : St2 → Prop} {J : Int32 → (Nat → Int32) → (Nat → Int32) → (Nat → Int32) → (Nat → Int32) → (Nat → Int32) → (Nat → Int32) → (Nat → Int32) → (Nat → Int32) → (Nat → Int32) → (Nat → Int32) → (Nat → Int32) → (Nat → Int32) → (Nat → Int32) → Prop} {f1 f2 : Int32} {a1 a2 a3 a4 a5 a6 a7 a8 a9 a10 a11 a12 a13 : Nat → Int32} {t m : Nat} (ht : t < 8) (hm : m ≤ 20)
    (H : ∀ b9, J (nI (t + 1)) a1 a2 a3 a4 a5 a6 a7 a8 b9 a10 a11 a12 a13) : ∃ n, wX_orderThings_17 post J (nI t) (nI m) f1 f2 n 0 a1 a2 a3 a4 a5 a6 a7 a8 a9 a10 a11 a12 a13 :=
  pk_loop (fun n i s => wX_orderThings_17 post J (nI t) (nI m) f1 f2 n (nI i) a1 a2 a3 a4 a5 a6 a7 a8 s a10 a11 a12 a13) (fun _ _ => True) m 0 a9 (by omega) trivial
    (fun n s _ => pk_le m m (fun _ => nm_r (nI_1 t) (H s)) (fun z => absurd z (by omega)))
    (fun n i s hi _ hw => pk_le m i (fun z => absurd z (by omega)) (fun _ => ⟨pk_in t 8 ht, pk_in i 20 (by omega), pk_in t 8 ht, nm_e (nm_r (nI_1 i) (hw _ trivial))⟩))
theorem fs_order {post : St2 → Prop} {f1 f2 : Int32} {a1 a2 a3 a4 a5 a6 a7 a8 a9 a10 a11 a12 a13 : Nat → Int32} {m : Nat} (hm : m ≤ 20) (H : ∀ b7 b8 b9 od, fs_Pm od → (∀ q, q < 8 → b7 q = nI (od q)) → post ((nI m), f1, f2, a1, a2, a3, a4, a5, a6, b7, b8, b9, a10, a11, a12, a13)) : wpX_orderThings post ((nI m), f1, f2, a1, a2, a3, a4, a5, a6, a7, a8, a9, a10, a11, a12, a13) :=
  pk_loop (fun n i s => wX_orderThings_2 post (nI m) f1 f2 n (nI i) a1 a2 a3 a4 a5 a6 a7 a8 s a10 a11 a12 a13) (fun _ _ => True) 8 0 a9 (by omega) trivial
    (fun n s _ => pk_le 8 8 (fun _ => fs_o59 (fun b7 b8 od h1 h2 => H b7 b8 s od h1 h2)) (fun z => absurd z (by omega)))
    (fun n i s hi _ hw => pk_le 8 i (fun z => absurd z (by omega)) (fun _ => ⟨pk_in i 8 hi, nm_e (fs_o17 hi hm (fun b9 => hw b9 trivial))⟩))
end
section
/-! the arrays of the tree -/
def fs_Ar (od : Nat → Nat) (N : Nat) (pl ab : Nat → Nat) (a4 a5 a6 : Nat → Int32) : Prop :=
  (∀ x, 1 ≤ x → x < N → a4 x = nI (ab x) ∧ a5 x = nI (fs_pv pl (pl x) x)) ∧ (∀ q, q < 8 → a6 (od q) = nI (fs_pv pl (q + 1) N))
/-- while a basket a is planted: n baskets stand in the tree, and of a the things at the places below p -/
def fs_Pl (od : Nat → Nat) (A : Nat → Nat → Bool) (n p : Nat) (a : Nat → Bool) (node N : Nat) (key pl ab : Nat → Nat) (a3 a4 a5 a6 : Nat → Int32) : Prop :=
  fs_Tr N key pl ab ∧ fs_Ar od N pl ab a4 a5 a6 ∧ fs_Co A n N key pl ∧
  (∀ q, q < p → a q = true → ∃ x, x < N ∧ pl x = q + 1 ∧ key x = fs_pre a (q + 1)) ∧
  node < N ∧ key node = fs_pre a p ∧ pl node ≤ p ∧
  (∀ x, 1 ≤ x → x < N → a3 x = nI (fs_num (fun b => fs_ps A key pl b x) n + (decide (pl x ≤ p ∧ fs_pre a (pl x) = key x)).toNat)) ∧
  N ≤ 1 + 8 * n + p
/-- a node's number lies between two powers -/
theorem fs_key_lo {N x : Nat} {key pl ab : Nat → Nat} (hT : fs_Tr N key pl ab) (h1 : 1 ≤ x) (hx : x < N) : 2 ^ (pl x - 1) ≤ key x := by
  have := (hT.2.2.2.1 x h1 hx).2.2.2.2
  omega
theorem fs_key_pl {N x p k : Nat} {key pl ab : Nat → Nat} (hT : fs_Tr N key pl ab) (hx : x < N) (hk : k < 2 ^ p) (h : key x = k + 2 ^ p) : 1 ≤ x ∧ pl x = p + 1 ∧ key (ab x) = k := by
  have x1 : 1 ≤ x := by
    rcases Nat.eq_zero_or_pos x with z | z
    · rw [z, hT.2.1] at h
      have : 0 < 2 ^ p := Nat.pow_pos (by decide)
      omega
    · exact z
  have u := hT.2.2.2.1 x x1 hx
  have lo := fs_key_lo hT x1 hx
  have hi := hT.2.2.2.2.1 x hx
  have e : 2 ^ (p + 1) = 2 ^ p + 2 ^ p := by rw [Nat.pow_succ]; omega
  have hpl : pl x = p + 1 := by
    rcases Nat.lt_trichotomy (pl x) (p + 1) with z | z | z
    · have : 2 ^ pl x ≤ 2 ^ p := fs_pw (by omega)
      omega
    · exact z
    · have : 2 ^ (p + 1) ≤ 2 ^ (pl x - 1) := fs_pw (by omega)
      omega
  refine ⟨x1, hpl, ?_⟩
  have u5 := u.2.2.2.2
  rw [hpl, Nat.add_sub_cancel] at u5
  omega
theorem fs_pl_no {od : Nat → Nat} {A : Nat → Nat → Bool} {n p node N : Nat} {a : Nat → Bool} {key pl ab : Nat → Nat} {a3 a4 a5 a6 : Nat → Int32} (h : fs_Pl od A n p a node N key pl ab a3 a4 a5 a6) (ha : a p = false) :
    fs_Pl od A n (p + 1) a node N key pl ab a3 a4 a5 a6 := by
  obtain ⟨hT, h2, h3, h4, h5, h6, h7, h8, h9⟩ := h
  refine ⟨hT, h2, h3, fun q hq hA => ?_, h5, by rw [fs_pre_f ha]; exact h6, by omega, fun x x1 x2 => ?_, by omega⟩
  · by_cases e : q = p
    · rw [e, ha] at hA; exact absurd hA (by decide)
    · exact h4 q (by omega) hA
  · rw [h8 x x1 x2]
    have e : decide (pl x ≤ p ∧ fs_pre a (pl x) = key x) = decide (pl x ≤ p + 1 ∧ fs_pre a (pl x) = key x) := by
      rw [decide_eq_decide]
      constructor
      · exact fun z => ⟨by omega, z.2⟩
      · intro z
        refine ⟨?_, z.2⟩
        rcases Nat.lt_or_ge p (pl x) with w | w
        · exfalso
          have e2 : pl x = p + 1 := by omega
          have lo := fs_key_lo hT x1 x2
          rw [← z.2, e2, fs_pre_f ha, Nat.add_sub_cancel] at lo
          have := fs_pre_lt a p
          omega
        · exact w
    rw [e]
theorem fs_pl_old {od : Nat → Nat} {A : Nat → Nat → Bool} {n p node N y : Nat} {a : Nat → Bool} {key pl ab : Nat → Nat} {a3 a4 a5 a6 : Nat → Int32} (h : fs_Pl od A n p a node N key pl ab a3 a4 a5 a6) (hn : n < 20) (ha : a p = true)
    (y1 : 1 ≤ y) (y2 : y < N) (y3 : pl y = p + 1) (y4 : ab y = node) :
    fs_Pl od A n (p + 1) a y N key pl ab (upd a3 y ((a3 y + 1).toInt8.toInt32)) a4 a5 a6 := by
  obtain ⟨hT, h2, h3, h4, h5, h6, h7, h8, h9⟩ := h
  have ky : key y = fs_pre a (p + 1) := by
    have u := (hT.2.2.2.1 y y1 y2).2.2.2.2
    rw [y3, y4, h6, Nat.add_sub_cancel] at u
    rw [u, fs_pre_t ha]
  refine ⟨hT, h2, h3, fun q hq hA => ?_, y2, ky, by omega, fun x x1 x2 => ?_, by omega⟩
  · by_cases e : q = p
    · exact ⟨y, y2, by rw [e, y3], by rw [e, ky]⟩
    · exact h4 q (by omega) hA
  · by_cases e : x = y
    · rw [e, pk_us, h8 y y1 y2, decide_eq_false (fun z => absurd z.1 (by omega)), decide_eq_true ⟨by omega, by rw [y3, ky]⟩]
      show (nI (fs_num (fun b => fs_ps A key pl b y) n + 0) + 1).toInt8.toInt32 = _
      have := fs_num_le (fun b => fs_ps A key pl b y) n
      rw [nI_1, fs_i3 _ (by omega)]
      rfl
    · rw [pk_un e, h8 x x1 x2]
      have e : decide (pl x ≤ p ∧ fs_pre a (pl x) = key x) = decide (pl x ≤ p + 1 ∧ fs_pre a (pl x) = key x) := by
        rw [decide_eq_decide]
        constructor
        · exact fun z => ⟨by omega, z.2⟩
        · intro z
          refine ⟨?_, z.2⟩
          rcases Nat.lt_or_ge p (pl x) with w | w
          · exfalso
            have e2 : pl x = p + 1 := by omega
            have z2 := z.2
            rw [e2, ← ky] at z2
            exact e (hT.2.2.2.2.2 y x y2 x2 z2).symm
          · exact w
      rw [e]
theorem fs_pl_new {od : Nat → Nat} {A : Nat → Nat → Bool} {n p node N : Nat} {a : Nat → Bool} {key pl ab key' pl' ab' : Nat → Nat} {a3 a4 a5 a6 : Nat → Int32} (hP : fs_Pm od) (h : fs_Pl od A n p a node N key pl ab a3 a4 a5 a6) (hp : p < 8) (ha : a p = true)
    (hno : ∀ y, 1 ≤ y → y < N → pl y = p + 1 → ab y ≠ node)
    (k1 : ∀ x, x < N → key' x = key x) (k2 : key' N = fs_pre a (p + 1)) (p1 : ∀ x, x < N → pl' x = pl x) (p2 : pl' N = p + 1) (b1 : ∀ x, x < N → ab' x = ab x) (b2 : ab' N = node) :
    fs_Pl od A n (p + 1) a N (N + 1) key' pl' ab' (upd (upd a3 N 0) N (nI 1)) (upd a4 N (nI node)) (upd a5 N (a6 (od p))) (upd a6 (od p) (nI N)) := by
  obtain ⟨hT, h2, h3, h4, h5, h6, h7, h8, h9⟩ := h
  have hN : 1 ≤ N := hT.1
  have hnew : ∀ y, y < N → key y ≠ fs_pre a (p + 1) := by
    intro y hy e
    rw [fs_pre_t ha] at e
    obtain ⟨w1, w2, w3⟩ := fs_key_pl hT hy (fs_pre_lt a p) e
    have u := hT.2.2.2.1 y w1 hy
    exact hno y w1 hy w2 (hT.2.2.2.2.2 (ab y) node (by omega) h5 (by rw [w3, h6]))
  have hT' : fs_Tr (N + 1) key' pl' ab' := by
    refine ⟨by omega, by rw [k1 0 (by omega)]; exact hT.2.1, by rw [p1 0 (by omega)]; exact hT.2.2.1, fun x x1 x2 => ?_, fun x hx => ?_, fun x y hx hy e => ?_⟩
    · by_cases e : x = N
      · rw [e, b2, p2, p1 node h5, k1 node h5, k2, Nat.add_sub_cancel, fs_pre_t ha, h6]
        exact ⟨by omega, by omega, by omega, by omega, rfl⟩
      · have u := hT.2.2.2.1 x x1 (by omega)
        rw [b1 x (by omega), p1 x (by omega), k1 x (by omega), k1 (ab x) (by omega), p1 (ab x) (by omega)]
        exact u
    · by_cases e : x = N
      · rw [e, k2, p2]; exact fs_pre_lt a (p + 1)
      · rw [k1 x (by omega), p1 x (by omega)]; exact hT.2.2.2.2.1 x (by omega)
    · by_cases ex : x = N
      · by_cases ey : y = N
        · omega
        · rw [ex, k2, k1 y (by omega)] at e
          exact absurd e.symm (hnew y (by omega))
      · by_cases ey : y = N
        · rw [ey, k2, k1 x (by omega)] at e
          exact absurd e (hnew x (by omega))
        · rw [k1 x (by omega), k1 y (by omega)] at e
          exact hT.2.2.2.2.2 x y (by omega) (by omega) e
  refine ⟨hT', ⟨fun x x1 x2 => ?_, fun q hq => ?_⟩, fun b hb q hq hA => ?_, fun q hq hA => ?_, by omega, k2, by omega, fun x x1 x2 => ?_, by omega⟩
  · by_cases e : x = N
    · rw [e, pk_us, pk_us, b2, p2, h2.2 p hp, fs_pv_congr (pl := pl') (pl' := pl) p1]
      exact ⟨rfl, rfl⟩
    · rw [pk_un e, pk_un e, b1 x (by omega), p1 x (by omega), fs_pv_congr (pl := pl') (pl' := pl) (fun y hy => p1 y (by omega))]
      exact h2.1 x x1 (by omega)
  · by_cases e : q = p
    · rw [e, pk_us, fs_pv_t p2]
    · rw [pk_un (fun z => e (hP.2.1 q p hq hp z)), fs_pv_f (by omega), fs_pv_congr (pl := pl') (pl' := pl) p1]
      exact h2.2 q hq
  · obtain ⟨x, x1, x2, x3⟩ := h3 b hb q hq hA
    exact ⟨x, by omega, by rw [p1 x x1]; exact x2, by rw [k1 x x1]; exact x3⟩
  · by_cases e : q = p
    · exact ⟨N, by omega, by rw [e]; exact p2, by rw [e]; exact k2⟩
    · obtain ⟨x, x1, x2, x3⟩ := h4 q (by omega) hA
      exact ⟨x, by omega, by rw [p1 x x1]; exact x2, by rw [k1 x x1]; exact x3⟩
  · by_cases e : x = N
    · rw [e, pk_us, fs_num_zero (fun b hb => ?_), decide_eq_true ⟨by omega, by rw [p2, k2]⟩]
      · rfl
      · cases f : fs_ps A key' pl' b N
        · rfl
        · exfalso
          rw [fs_ps_iff, p2, k2, fs_pre_t ha] at f
          obtain ⟨w1, w2⟩ := fs_pre_bit (a := A b) (q := p) (k := fs_pre a p) (fs_pre_lt a p) f
          obtain ⟨x, x1, x2, x3⟩ := h3 b hb p hp w1
          rw [f, ← fs_pre_t ha] at x3
          exact hnew x x1 x3
    · rw [pk_un e, pk_un e, h8 x x1 (by omega), p1 x (by omega), k1 x (by omega)]
      have e1 : fs_num (fun b => fs_ps A key' pl' b x) n = fs_num (fun b => fs_ps A key pl b x) n := by
        refine fs_num_congr (fun b hb => ?_)
        unfold fs_ps
        rw [p1 x (by omega), k1 x (by omega)]
      have e2 : decide (pl x ≤ p ∧ fs_pre a (pl x) = key x) = decide (pl x ≤ p + 1 ∧ fs_pre a (pl x) = key x) := by
        rw [decide_eq_decide]
        constructor
        · exact fun z => ⟨by omega, z.2⟩
        · intro z
          refine ⟨?_, z.2⟩
          rcases Nat.lt_or_ge p (pl x) with w | w
          · exfalso
            have e2 : pl x = p + 1 := by omega
            have z2 := z.2
            rw [e2] at z2
            exact hnew x (by omega) z2.symm
          · exact w
      rw [e1, e2]
/-! childWith -/
theorem fs_child {post : Int32 → Prop} {f0 f1 f2 : Int32} {a1 a2 a3 a4 a5 a6 a7 a8 a9 a10 a11 a12 a13 : Nat → Int32} {N p node : Nat} {od key pl ab : Nat → Nat} (hP : fs_Pm od) (hT : fs_Tr N key pl ab) (hN : N ≤ 161) (hA : fs_Ar od N pl ab a4 a5 a6) (hp : p < 8) (hn : node < N)
    (H0 : (∀ y, 1 ≤ y → y < N → pl y = p + 1 → ab y ≠ node) → post 0) (H1 : ∀ y, 1 ≤ y → y < N → pl y = p + 1 → ab y = node → post (nI y)) : wpX_childWith post (f0, f1, f2, a1, a2, a3, a4, a5, a6, a7, a8, a9, a10, a11, a12, a13) (nI node) (nI (od p)) := by
  have ho := hP.1 p hp
  have hN1 := hT.1
  have t3 := hT.2.2.1
  have e6 : a6 (nI (od p)).toNatClampNeg = nI (fs_pv pl (p + 1) N) := by rw [nI_clamp (by omega)]; exact hA.2 p hp
  refine ⟨pk_in (od p) 8 ho, nm_r e6 ?_⟩
  refine loop_m (fun n x => wX_childWith_7 post (nI node) f0 f1 f2 a1 a2 a3 a4 a5 a6 a7 a8 a9 a10 a11 a12 a13 n (nI x)) (fun x => x < N ∧ (x = 0 ∨ pl x = p + 1) ∧ ∀ y, x < y → y < N → pl y = p + 1 → ab y ≠ node) (fun x => x) ?_ (fs_pv pl (p + 1) N) ?_
  · intro n x hI hw
    obtain ⟨i1, i2, i3⟩ := hI
    refine pk_eq x 0 (fun z => H0 (fun y y1 y2 y3 => i3 y (by omega) y2 y3)) (fun z => ⟨pk_in x 161 (by omega), ?_⟩)
    have hx := hA.1 x (by omega) i1
    have hu := hT.2.2.2.1 x (by omega) i1
    have e4 : a4 (nI x).toNatClampNeg = nI (ab x) := by rw [nI_clamp (by omega)]; exact hx.1
    have e5 : a5 (nI x).toNatClampNeg = nI (fs_pv pl (p + 1) x) := by
      rw [nI_clamp (by omega), hx.2]
      rcases i2 with w | w
      · exact absurd w z
      · rw [w]
    have ipl : pl x = p + 1 := by
      rcases i2 with w | w
      · exact absurd w z
      · exact w
    refine pk_eq (ab x) node (fun w => H1 x (by omega) i1 ipl w) (fun w => ⟨pk_in x 161 (by omega), nm_r e5 (hw _ ⟨?_, ?_, ?_⟩ ?_)⟩) e4
    · have := fs_pv_lt pl (p + 1) (k := x) (by omega); omega
    · by_cases q : fs_pv pl (p + 1) x = 0
      · exact Or.inl q
      · exact Or.inr (fs_pv_pl q)
    · intro y y1 y2 y3
      rcases Nat.lt_trichotomy y x with v | v | v
      · exact absurd y3 (fs_pv_gap y1 v)
      · rw [v]; exact w
      · exact i3 y v y2 y3
    · exact fs_pv_lt pl (p + 1) (k := x) (by omega)
  · refine ⟨fs_pv_lt pl (p + 1) (by omega), ?_, fun y y1 y2 y3 => absurd y3 (fs_pv_gap y1 y2)⟩
    by_cases q : fs_pv pl (p + 1) N = 0
    · exact Or.inl q
    · exact Or.inr (fs_pv_pl q)
/-! plant -/
theorem fs_p111 {post : St2 → Prop} {J : Int32 → Int32 → Int32 → (Nat → Int32) → (Nat → Int32) → (Nat → Int32) → (Nat → Int32) → (Nat → Int32) → (Nat → Int32) → (Nat → Int32) → (Nat → Int32) → (Nat → Int32) → (Nat → Int32) → (Nat → Int32) → (Nat → Int32) → (Nat → Int32) → Prop} {x1 : Int32} {f0 f1 f2 : Int32} {a1 a2 a3 a4 a5 a6 a7 a8 a9 a10 a11 a12 a13 : Nat → Int32} {p y : Nat} (hy : y < 161)
    (H : J (nI y) (nI (p + 1)) f2 a1 a2 (upd a3 y ((a3 y + 1).toInt8.toInt32)) a4 a5 a6 a7 a8 a9 a10 a11 a12 a13) : wX_plant_111 post J x1 (nI p) (nI y) f0 f1 f2 a1 a2 a3 a4 a5 a6 a7 a8 a9 a10 a11 a12 a13 :=
  ⟨pk_in y 161 hy, pk_in y 161 hy, nm_r (by rw [nI_clamp (by omega)]) (nm_r (nI_1 p) H)⟩
theorem fs_plant_l {post : St2 → Prop} {f0 f1 : Int32} {a1 a7 a8 a9 a10 a11 a12 a13 : Nat → Int32} {od : Nat → Nat} {A : Nat → Nat → Bool} {n bk : Nat} (hP : fs_Pm od) (h7 : ∀ q, q < 8 → a7 q = nI (od q)) (hn : n < 20) (hb : bk < 256)
    (H : ∀ node N key pl ab a2 a3 a4 a5 a6, fs_Pl od A n 8 (fun q => bk.testBit (od q)) node N key pl ab a3 a4 a5 a6 → post (f0, f1, (nI N), a1, a2, a3, a4, a5, a6, a7, a8, a9, a10, a11, a12, a13)) :
    ∀ k p, p + k = 8 → ∀ node N key pl ab a2 a3 a4 a5 a6, fs_Pl od A n p (fun q => bk.testBit (od q)) node N key pl ab a3 a4 a5 a6 → wX_plant_4 post (nI bk) f0 f1 (k + 1) (nI node) (nI p) (nI N) a1 a2 a3 a4 a5 a6 a7 a8 a9 a10 a11 a12 a13 := by
  intro k
  induction k with
  | zero =>
    intro p hp node N key pl ab a2 a3 a4 a5 a6 h
    have e : p = 8 := by omega
    subst e
    exact pk_le 8 8 (fun _ => H node N key pl ab a2 a3 a4 a5 a6 h) (fun z => absurd z (by omega))
  | succ k ih =>
    intro p hp node N key pl ab a2 a3 a4 a5 a6 h
    have e7 : a7 (nI p).toNatClampNeg = nI (od p) := by rw [nI_clamp (by omega)]; exact h7 p (by omega)
    have ho := hP.1 p (by omega)
    refine pk_le 8 p (fun z => absurd z (by omega)) (fun _ => ⟨pk_in p 8 (by omega), nm_r e7 ?_⟩)
    refine fs_ib bk (od p) hb ho (fun e => nm_r (nI_1 p) (ih (p + 1) (by omega) node N key pl ab a2 a3 a4 a5 a6 (fs_pl_no h e))) (fun e => ?_)
    have h' := h
    obtain ⟨hT, h2, h3, h4, h5, h6, hpl, h8, h9⟩ := h'
    refine fs_child hP hT (by omega) h2 (by omega) h5 (fun hno => ?_) (fun y y1 y2 y3 y4 => ?_)
    · have eN : (nI N).toNatClampNeg = N := nI_clamp (by omega)
      have eo : (nI (od p)).toNatClampNeg = od p := nI_clamp (by omega)
      have hin : vp_in (nI N) 161 := pk_in N 161 (by omega)
      refine br_t rfl (nm_r (nI_1 N) ⟨hin, nm_e ⟨hin, nm_r (by rw [eN]) ⟨hin, nm_r (show upd a4 (nI N).toNatClampNeg (nI node).toInt16.toInt32 = upd a4 N (nI node) by rw [eN, fs_i4 node (by omega)]) ⟨pk_in (od p) 8 ho, hin, nm_r (show upd a5 (nI N).toNatClampNeg (vp_nar .short (a6 (nI (od p)).toNatClampNeg)) = upd a5 N (a6 (od p)) by rw [eN, eo, h2.2 p (by omega), fs_n16 (by have := fs_pv_lt pl (p + 1) (k := N) hT.1; omega)]) ⟨pk_in (od p) 8 ho, nm_r (show upd a6 (nI (od p)).toNatClampNeg (nI N).toInt16.toInt32 = upd a6 (od p) (nI N) by rw [eo, fs_i4 N (by omega)]) ?_⟩⟩⟩⟩⟩)
      refine fs_p111 (by omega) ?_
      have e1 : (upd a3 N 0 N + 1).toInt8.toInt32 = nI 1 := by rw [pk_us]; decide
      rw [e1]
      exact ih (p + 1) (by omega) N (N + 1) (fun x => if x = N then fs_pre (fun q => bk.testBit (od q)) (p + 1) else key x) (fun x => if x = N then p + 1 else pl x) (fun x => if x = N then node else ab x) _ _ _ _ _
        (fs_pl_new hP h (by omega) e hno (fun x hx => if_neg (by omega)) (if_pos rfl) (fun x hx => if_neg (by omega)) (if_pos rfl) (fun x hx => if_neg (by omega)) (if_pos rfl))
    · refine br_f (nI_ne0 (by omega) (by omega)) (fs_p111 (by omega) ?_)
      exact ih (p + 1) (by omega) y N key pl ab a2 _ a4 a5 a6 (fs_pl_old h hn e y1 y2 y3 y4)
/-- between two baskets: n of them stand in the tree -/
def fs_Tn (od : Nat → Nat) (A : Nat → Nat → Bool) (n N : Nat) (key pl ab : Nat → Nat) (a3 a4 a5 a6 : Nat → Int32) : Prop :=
  fs_Tr N key pl ab ∧ fs_Ar od N pl ab a4 a5 a6 ∧ fs_Co A n N key pl ∧ (∀ x, 1 ≤ x → x < N → a3 x = nI (fs_num (fun b => fs_ps A key pl b x) n)) ∧ N ≤ 1 + 8 * n
theorem fs_tn_in {od : Nat → Nat} {A : Nat → Nat → Bool} {n N : Nat} {key pl ab : Nat → Nat} {a3 a4 a5 a6 : Nat → Int32} (a : Nat → Bool) (h : fs_Tn od A n N key pl ab a3 a4 a5 a6) : fs_Pl od A n 0 a 0 N key pl ab a3 a4 a5 a6 := by
  obtain ⟨hT, h2, h3, h4, h5⟩ := h
  refine ⟨hT, h2, h3, fun q hq => absurd hq (by omega), hT.1, hT.2.1, by rw [hT.2.2.1]; exact Nat.le_refl 0, fun x x1 x2 => ?_, by omega⟩
  have := (hT.2.2.2.1 x x1 x2).2.1
  rw [h4 x x1 x2, decide_eq_false (fun z => absurd z.1 (by omega))]
  rfl
theorem fs_tn_out {od : Nat → Nat} {A : Nat → Nat → Bool} {n node N : Nat} {key pl ab : Nat → Nat} {a3 a4 a5 a6 : Nat → Int32} (h : fs_Pl od A n 8 (A n) node N key pl ab a3 a4 a5 a6) : fs_Tn od A (n + 1) N key pl ab a3 a4 a5 a6 := by
  obtain ⟨hT, h2, h3, h4, h5, h6, h7, h8, h9⟩ := h
  refine ⟨hT, h2, fun b hb q hq hA => ?_, fun x x1 x2 => ?_, by omega⟩
  · by_cases e : b = n
    · rw [e] at hA ⊢
      exact h4 q hq hA
    · exact h3 b (by omega) q hq hA
  · rw [h8 x x1 x2]
    have u := (hT.2.2.2.1 x x1 x2).2.2.1
    have e : decide (pl x ≤ 8 ∧ fs_pre (A n) (pl x) = key x) = fs_ps A key pl n x := by
      unfold fs_ps
      rw [decide_eq_decide]
      exact ⟨fun z => z.2, fun z => ⟨u, z⟩⟩
    rw [e]
    rfl
theorem fs_plant {post : St2 → Prop} {f0 f1 : Int32} {a1 a2 a3 a4 a5 a6 a7 a8 a9 a10 a11 a12 a13 : Nat → Int32} {od B : Nat → Nat} {n N : Nat} {key pl ab : Nat → Nat} (hP : fs_Pm od) (h7 : ∀ q, q < 8 → a7 q = nI (od q)) (hn : n < 20) (hb : B n < 256)
    (h : fs_Tn od (fun b q => (B b).testBit (od q)) n N key pl ab a3 a4 a5 a6)
    (H : ∀ N key pl ab a2 a3 a4 a5 a6, fs_Tn od (fun b q => (B b).testBit (od q)) (n + 1) N key pl ab a3 a4 a5 a6 → post (f0, f1, (nI N), a1, a2, a3, a4, a5, a6, a7, a8, a9, a10, a11, a12, a13)) : wpX_plant post (f0, f1, (nI N), a1, a2, a3, a4, a5, a6, a7, a8, a9, a10, a11, a12, a13) (nI (B n)) :=
  ⟨9, fs_plant_l hP h7 hn hb (fun node N key pl ab a2 a3 a4 a5 a6 g => H N key pl ab a2 a3 a4 a5 a6 (fs_tn_out g)) 8 0 (by omega) 0 N key pl ab a2 a3 a4 a5 a6 (fs_tn_in _ h)⟩
end
section
/-! countOn -/
theorem fs_ls_pv {f pl : Nat → Nat} {t k : Nat} (hk : 0 < k) : fs_ls f pl t k = fs_ls f pl t (fs_pv pl t k + 1) :=
  fs_ls_gap (by have := fs_pv_lt pl t hk; omega) (fun y h1 h2 => fs_pv_gap (k := k) (by omega) h2)
theorem fs_i161 (d x : Nat) : 161 * nI d + nI x = nI (161 * d + x) := by
  show nI 161 * nI d + nI x = _
  rw [pk_mul, nI_add]
theorem fs_count {post : Int32 → Prop} {f0 f1 f2 : Int32} {a1 a2 a3 a4 a5 a6 a7 a8 a9 a10 a11 a12 a13 : Nat → Int32} {N d p : Nat} {od key pl ab w : Nat → Nat} (hP : fs_Pm od) (hT : fs_Tr N key pl ab) (hN : N ≤ 161) (hA : fs_Ar od N pl ab a4 a5 a6) (hp : p < 8) (hd : d ≤ 8)
    (hw : ∀ x, 1 ≤ x → x < N → pl x = p + 1 → a11 (161 * d + x) = nI (w x)) (H : post (nI (fs_ls w pl (p + 1) N))) : wpX_countOn post (f0, f1, f2, a1, a2, a3, a4, a5, a6, a7, a8, a9, a10, a11, a12, a13) (nI d) (nI (od p)) := by
  have ho := hP.1 p hp
  have hN1 := hT.1
  have t3 := hT.2.2.1
  have e6 : a6 (nI (od p)).toNatClampNeg = nI (fs_pv pl (p + 1) N) := by rw [nI_clamp (by omega)]; exact hA.2 p hp
  refine ⟨pk_in (od p) 8 ho, nm_r e6 ?_⟩
  refine loop_m (fun n (s : Nat × Nat) => wX_countOn_10 post (nI d) f0 f1 f2 a1 a2 a3 a4 a5 a6 a7 a8 a9 a10 a11 a12 a13 n (nI s.1) (nI s.2)) (fun s => s.2 < N ∧ (s.2 = 0 ∨ pl s.2 = p + 1) ∧ s.1 + fs_ls w pl (p + 1) (s.2 + 1) = fs_ls w pl (p + 1) N) (fun s => s.2) ?_ (0, fs_pv pl (p + 1) N) ?_
  · intro n s hI hk
    obtain ⟨c, x⟩ := s
    obtain ⟨i1, i2, i3⟩ := hI
    dsimp only at i1 i2 i3
    refine pk_eq x 0 (fun z => ?_) (fun z => ?_)
    · have e : fs_ls w pl (p + 1) (x + 1) = 0 := by
        rw [z]
        show 0 + (if pl 0 = p + 1 then w 0 else 0) = 0
        rw [if_neg (by omega)]
      rw [e, Nat.add_zero] at i3
      show post (nI c)
      rw [i3]
      exact H
    · have ipl : pl x = p + 1 := by
        rcases i2 with v | v
        · exact absurd v z
        · exact v
      have hx := hA.1 x (by omega) i1
      have e5 : a5 (nI x).toNatClampNeg = nI (fs_pv pl (p + 1) x) := by rw [nI_clamp (by omega), hx.2, ipl]
      have e11 : nI c + a11 (161 * nI d + nI x).toNatClampNeg = nI (c + w x) := by rw [fs_i161, nI_clamp (by omega), hw x (by omega) i1 ipl, nI_add]
      have hl := fs_pv_lt pl (p + 1) (k := x) (by omega)
      refine ⟨pk_in (161 * d + x) 1449 (by omega) (fs_i161 d x), nm_r e11 ⟨pk_in x 161 (by omega), nm_r e5 (hk (c + w x, fs_pv pl (p + 1) x) ⟨?_, ?_, ?_⟩ hl)⟩⟩
      · show fs_pv pl (p + 1) x < N
        omega
      · by_cases q : fs_pv pl (p + 1) x = 0
        · exact Or.inl q
        · exact Or.inr (fs_pv_pl q)
      · show c + w x + fs_ls w pl (p + 1) (fs_pv pl (p + 1) x + 1) = _
        rw [← fs_ls_pv (by omega), ← i3]
        have : fs_ls w pl (p + 1) (x + 1) = fs_ls w pl (p + 1) x + w x := by
          show fs_ls w pl (p + 1) x + (if pl x = p + 1 then w x else 0) = _
          rw [if_pos ipl]
        omega
  · refine ⟨fs_pv_lt pl (p + 1) (by omega), ?_, ?_⟩
    · by_cases q : fs_pv pl (p + 1) N = 0
      · exact Or.inl q
      · exact Or.inr (fs_pv_pl q)
    · show 0 + fs_ls w pl (p + 1) (fs_pv pl (p + 1) N + 1) = _
      rw [← fs_ls_pv (by omega), Nat.zero_add]
/-! liftWeights -/
theorem fs_sum_pick {P : Nat → Prop} [DecidablePred P] {W : Nat → Nat} {i N : Nat} (hi : i + 1 < N) :
    fs_sum (fun y => if P y ∧ i < y then W y else 0) N = fs_sum (fun y => if P y ∧ i + 1 < y then W y else 0) N + (if P (i + 1) then W (i + 1) else 0) := by
  have e1 : ∀ M, i + 1 < M → fs_sum (fun y => if y = i + 1 then (if P (i + 1) then W (i + 1) else 0) else 0) M = (if P (i + 1) then W (i + 1) else 0) := by
    intro M
    induction M with
    | zero => intro h; omega
    | succ M ih =>
      intro h
      show fs_sum (fun y => if y = i + 1 then (if P (i + 1) then W (i + 1) else 0) else 0) M + (if M = i + 1 then (if P (i + 1) then W (i + 1) else 0) else 0) = _
      by_cases e : M = i + 1
      · rw [if_pos e, fs_sum_zero (fun k hk => if_neg (by omega)), Nat.zero_add]
      · rw [if_neg e, ih (by omega), Nat.add_zero]
  rw [← e1 N hi, ← fs_sum_add]
  refine fs_sum_congr (fun y hy => ?_)
  by_cases hP : P y
  · rcases Nat.lt_trichotomy y (i + 1) with z | z | z
    · rw [if_neg (fun h => absurd h.2 (by omega)), if_neg (fun h => absurd h.2 (by omega)), if_neg (by omega)]
    · subst z
      rw [if_pos ⟨hP, by omega⟩, if_neg (fun h => absurd h.2 (by omega)), if_pos rfl, if_pos hP, Nat.zero_add]
    · rw [if_pos ⟨hP, by omega⟩, if_pos ⟨hP, by omega⟩, if_neg (by omega), Nat.add_zero]
  · rw [if_neg (fun h => hP h.1), if_neg (fun h => hP h.1)]
    by_cases e : y = i + 1
    · rw [if_pos e, if_neg (by rw [← e]; exact hP)]
    · rw [if_neg e]
theorem fs_l94 {post : St2 → Prop} {f0 f1 : Int32} {a1 a2 a3 a4 a5 a6 a7 a8 a9 a10 a11 a12 a13 : Nat → Int32} {N to : Nat} {ab V W : Nat → Nat} (hN1 : 1 ≤ N) (hN : N ≤ 161) (hto : to + 161 ≤ 1449) (hW : ∀ x, W x ≤ 20)
    (hab : ∀ x, 1 ≤ x → x < N → ab x < x ∧ a4 x = nI (ab x))
    (hid : ∀ x, x < N → W x = V x + fs_sum (fun y => if 1 ≤ y ∧ ab y = x then W y else 0) N)
    (hV : ∀ x, x < N → a11 (to + x) = nI (V x))
    (H : ∀ s, (∀ j, j < to → s j = a11 j) → (∀ x, x < N → s (to + x) = nI (W x)) → post (f0, f1, (nI N), a1, a2, a3, a4, a5, a6, a7, a8, a9, a10, s, a12, a13)) :
    ∃ n, wX_liftWeights_94 post (nI to) f0 f1 (nI N) n (nI N - 1) a1 a2 a3 a4 a5 a6 a7 a8 a9 a10 a11 a12 a13 := by
  obtain ⟨M, hM⟩ : ∃ M, N = M + 1 := ⟨N - 1, by omega⟩
  have e0 : nI N - 1 = nI M := by rw [hM]; exact nI_pred M
  rw [e0]
  have part : ∀ i x, x < N → V x + fs_sum (fun y => if (1 ≤ y ∧ ab y = x) ∧ i < y then W y else 0) N ≤ W x := by
    intro i x hx
    rw [hid x hx]
    refine Nat.add_le_add_left (fs_sum_le (fun y hy => ?_)) _
    by_cases c : 1 ≤ y ∧ ab y = x
    · by_cases c2 : i < y
      · rw [if_pos ⟨c, c2⟩, if_pos c]; exact Nat.le_refl _
      · rw [if_neg (fun h => c2 h.2)]; exact Nat.zero_le _
    · rw [if_neg (fun h => c h.1)]; exact Nat.zero_le _
  refine ⟨M + 1, pk_loopD (fun n i s => wX_liftWeights_94 post (nI to) f0 f1 (nI N) n (nI i) a1 a2 a3 a4 a5 a6 a7 a8 a9 a10 s a12 a13) (fun i s => i < N ∧ (∀ j, j < to → s j = a11 j) ∧ (∀ x, x < N → s (to + x) = nI (V x + fs_sum (fun y => if (1 ≤ y ∧ ab y = x) ∧ i < y then W y else 0) N))) ?_ ?_ M a11 ⟨by omega, fun j _ => rfl, fun x hx => ?_⟩⟩
  · intro n s hI
    obtain ⟨i1, i2, i3⟩ := hI
    refine pk_le 0 0 (fun _ => H s i2 (fun x hx => ?_)) (fun z => absurd z (by omega))
    rw [i3 x hx, hid x hx]
    have e : fs_sum (fun y => if (1 ≤ y ∧ ab y = x) ∧ 0 < y then W y else 0) N = fs_sum (fun y => if 1 ≤ y ∧ ab y = x then W y else 0) N := by
      refine fs_sum_congr (fun y hy => ?_)
      by_cases c : 1 ≤ y ∧ ab y = x
      · rw [if_pos ⟨c, by omega⟩, if_pos c]
      · rw [if_neg (fun h => c h.1), if_neg c]
    rw [e]
  · intro n i s hI hw
    obtain ⟨i1, i2, i3⟩ := hI
    obtain ⟨u1, u2⟩ := hab (i + 1) (by omega) i1
    have e4 : a4 (nI (i + 1)).toNatClampNeg = nI (ab (i + 1)) := by rw [nI_clamp (by omega)]; exact u2
    have e5 : nI to + a4 (nI (i + 1)).toNatClampNeg = nI (to + ab (i + 1)) := by rw [e4, nI_add]
    have e6 : nI to + nI (i + 1) = nI (to + (i + 1)) := nI_add _ _
    have q1 : vp_in (nI to + a4 (nI (i + 1)).toNatClampNeg) 1449 := pk_in (to + ab (i + 1)) 1449 (by omega) e5
    have q2 : vp_in (nI to + nI (i + 1)) 1449 := pk_in (to + (i + 1)) 1449 (by omega) e6
    have full : V (i + 1) + fs_sum (fun y => if (1 ≤ y ∧ ab y = i + 1) ∧ i + 1 < y then W y else 0) N = W (i + 1) := by
      rw [hid (i + 1) i1]
      congr 1
      refine fs_sum_congr (fun y hy => ?_)
      by_cases c : 1 ≤ y ∧ ab y = i + 1
      · rw [if_pos c, if_pos ⟨c, by have := (hab y c.1 hy).1; omega⟩]
      · rw [if_neg (fun h => c h.1), if_neg c]
    have step : ∀ x, x < N → V x + fs_sum (fun y => if (1 ≤ y ∧ ab y = x) ∧ i < y then W y else 0) N = V x + fs_sum (fun y => if (1 ≤ y ∧ ab y = x) ∧ i + 1 < y then W y else 0) N + (if ab (i + 1) = x then W (i + 1) else 0) := by
      intro x hx
      rw [fs_sum_pick (P := fun y => 1 ≤ y ∧ ab y = x) i1, Nat.add_assoc]
      by_cases c : ab (i + 1) = x
      · rw [if_pos c, if_pos ⟨by omega, c⟩]
      · rw [if_neg c, if_neg (fun h => c h.2)]
    have eu : upd s (nI to + a4 (nI (i + 1)).toNatClampNeg).toNatClampNeg ((s (nI to + a4 (nI (i + 1)).toNatClampNeg).toNatClampNeg + s (nI to + nI (i + 1)).toNatClampNeg).toInt8.toInt32) = upd s (to + ab (i + 1)) (nI (V (ab (i + 1)) + fs_sum (fun y => if (1 ≤ y ∧ ab y = ab (i + 1)) ∧ i < y then W y else 0) N)) := by
      have hb := part i (ab (i + 1)) (by omega)
      have hb2 := hW (ab (i + 1))
      rw [e5, e6, nI_clamp (by omega), nI_clamp (by omega), i3 (i + 1) i1, full, i3 (ab (i + 1)) (by omega), nI_add]
      rw [step (ab (i + 1)) (by omega), if_pos rfl] at hb ⊢
      rw [fs_i3 _ (by omega)]
    refine pk_le (i + 1) 0 (fun z => absurd z (by omega)) (fun _ => ⟨pk_in (i + 1) 161 (by omega), q1, q2, q1, nm_r eu (nm_r (pk_m1 i) (hw _ ⟨by omega, fun j hj => ?_, fun x hx => ?_⟩))⟩)
    · rw [pk_un (by omega)]; exact i2 j hj
    · by_cases c : x = ab (i + 1)
      · rw [c, pk_us]
      · have st := step x hx
        rw [if_neg (fun h => c h.symm)] at st
        rw [pk_un (by omega), i3 x hx]
        exact congrArg nI st.symm
  · rw [hV x hx, fs_sum_zero (fun y hy => if_neg (fun h => absurd h.2 (by omega))), Nat.add_zero]
theorem fs_l50 {post : St2 → Prop} {f0 f1 : Int32} {a1 a2 a3 a4 a5 a6 a7 a8 a9 a10 a11 a12 a13 : Nat → Int32} {N fr to p : Nat} {od key pl ab w W : Nat → Nat} (hT : fs_Tr N key pl ab) (hN : N ≤ 161) (hA : fs_Ar od N pl ab a4 a5 a6) (hp : p < 8) (hft : to = fr + 161) (hto : to + 161 ≤ 1449) (hW : ∀ x, W x ≤ 20) (hw20 : ∀ x, w x ≤ 20)
    (hid : ∀ x, x < N → W x = (if pl x = p + 1 then w x else 0) + fs_sum (fun y => if 1 ≤ y ∧ ab y = x then W y else 0) N)
    (hw : ∀ x, 1 ≤ x → x < N → pl x = p + 1 → a11 (fr + x) = nI (w x))
    (h0 : ∀ x, x < N → a11 (to + x) = 0)
    (H : ∀ s, (∀ j, j < to → s j = a11 j) → (∀ x, x < N → s (to + x) = nI (W x)) → post (f0, f1, (nI N), a1, a2, a3, a4, a5, a6, a7, a8, a9, a10, s, a12, a13)) :
    ∃ n, wX_liftWeights_50 post (nI fr) (nI to) f0 f1 (nI N) n (nI (fs_pv pl (p + 1) N)) a1 a2 a3 a4 a5 a6 a7 a8 a9 a10 a11 a12 a13 := by
  have hN1 := hT.1
  have t3 := hT.2.2.1
  refine loop_m (fun n (z : Nat × (Nat → Int32)) => wX_liftWeights_50 post (nI fr) (nI to) f0 f1 (nI N) n (nI z.1) a1 a2 a3 a4 a5 a6 a7 a8 a9 a10 z.2 a12 a13) (fun z => z.1 < N ∧ (z.1 = 0 ∨ pl z.1 = p + 1) ∧ (∀ j, j < to → z.2 j = a11 j) ∧ ∀ y, y < N → z.2 (to + y) = nI (if pl y = p + 1 ∧ z.1 < y then w y else 0)) (fun z => z.1) ?_ (fs_pv pl (p + 1) N, a11) ?_
  · intro n z hI hk
    obtain ⟨x, s⟩ := z
    obtain ⟨i1, i2, i3, i4⟩ := hI
    dsimp only at i1 i2 i3 i4
    refine pk_eq x 0 (fun z => ?_) (fun z => ?_)
    · refine nm_e (fs_l94 (ab := ab) (V := fun y => if pl y = p + 1 then w y else 0) (W := W) hN1 hN hto hW (fun y y1 y2 => ⟨(hT.2.2.2.1 y y1 y2).1, (hA.1 y y1 y2).1⟩) hid (fun y hy => ?_) (fun s' g1 g2 => H s' (fun j hj => (g1 j hj).trans (i3 j hj)) g2))
      show s (to + y) = nI (if pl y = p + 1 then w y else 0)
      rw [i4 y hy]
      by_cases c : pl y = p + 1
      · have y0 : x < y := by
          rcases Nat.eq_zero_or_pos y with v | v
          · rw [v, t3] at c; omega
          · omega
        rw [if_pos c, if_pos ⟨c, y0⟩]
      · rw [if_neg c, if_neg (fun h => c h.1)]
    · have ipl : pl x = p + 1 := by
        rcases i2 with v | v
        · exact absurd v z
        · exact v
      have hx := hA.1 x (by omega) i1
      have e5 : a5 (nI x).toNatClampNeg = nI (fs_pv pl (p + 1) x) := by rw [nI_clamp (by omega), hx.2, ipl]
      have e1 : nI fr + nI x = nI (fr + x) := nI_add _ _
      have e2 : nI to + nI x = nI (to + x) := nI_add _ _
      have hwx := hw20 x
      have eu : upd s (nI to + nI x).toNatClampNeg (vp_nar .byte (s (nI fr + nI x).toNatClampNeg)) = upd s (to + x) (nI (w x)) := by
        rw [e1, e2, nI_clamp (by omega), nI_clamp (by omega), i3 (fr + x) (by omega), hw x (by omega) i1 ipl, fs_n8 (by omega)]
      have hl := fs_pv_lt pl (p + 1) (k := x) (by omega)
      refine ⟨pk_in (fr + x) 1449 (by omega) e1, pk_in (to + x) 1449 (by omega) e2, nm_r eu ⟨pk_in x 161 (by omega), nm_r e5 (hk (fs_pv pl (p + 1) x, upd s (to + x) (nI (w x))) ⟨?_, ?_, ?_, ?_⟩ hl)⟩⟩
      · show fs_pv pl (p + 1) x < N
        omega
      · by_cases q : fs_pv pl (p + 1) x = 0
        · exact Or.inl q
        · exact Or.inr (fs_pv_pl q)
      · intro j hj
        show upd s (to + x) (nI (w x)) j = a11 j
        rw [pk_un (by omega)]; exact i3 j hj
      · intro y hy
        show upd s (to + x) (nI (w x)) (to + y) = nI (if pl y = p + 1 ∧ fs_pv pl (p + 1) x < y then w y else 0)
        by_cases c : y = x
        · rw [c, pk_us, if_pos ⟨ipl, hl⟩]
        · rw [pk_un (by omega), i4 y hy]
          by_cases c2 : pl y = p + 1
          · rcases Nat.lt_trichotomy y x with v | v | v
            · rw [if_neg (fun h => absurd h.2 (by omega))]
              rw [if_neg (fun h => fs_pv_gap h.2 v c2)]
            · exact absurd v c
            · rw [if_pos ⟨c2, v⟩, if_pos ⟨c2, by omega⟩]
          · rw [if_neg (fun h => c2 h.1), if_neg (fun h => c2 h.1)]
  · refine ⟨fs_pv_lt pl (p + 1) (by omega), ?_, fun j _ => rfl, fun y hy => ?_⟩
    · by_cases q : fs_pv pl (p + 1) N = 0
      · exact Or.inl q
      · exact Or.inr (fs_pv_pl q)
    · show a11 (to + y) = nI (if pl y = p + 1 ∧ fs_pv pl (p + 1) N < y then w y else 0)
      rw [h0 y hy, if_neg (fun h => fs_pv_gap h.2 hy h.1)]
      rfl
theorem fs_lift {post : St2 → Prop} {f0 f1 : Int32} {a1 a2 a3 a4 a5 a6 a7 a8 a9 a10 a11 a12 a13 : Nat → Int32} {N d p n : Nat} {od key pl ab : Nat → Nat} {A : Nat → Nat → Bool} {G : Nat → Bool} (hP : fs_Pm od) (hT : fs_Tr N key pl ab) (hN : N ≤ 161) (hA : fs_Ar od N pl ab a4 a5 a6) (hC : fs_Co A n N key pl) (hn : n ≤ 20) (hp : p < 8) (hd : d ≤ 7)
    (hw : ∀ x, 1 ≤ x → x < N → pl x = p + 1 → a11 (161 * d + x) = nI (fs_num (fun b => G b && fs_ps A key pl b x) n))
    (H : ∀ s, (∀ j, j < 161 * (d + 1) → s j = a11 j) → (∀ x, x < N → s (161 * (d + 1) + x) = nI (fs_W A G n p key pl x)) → post (f0, f1, (nI N), a1, a2, a3, a4, a5, a6, a7, a8, a9, a10, s, a12, a13)) :
    wpX_liftWeights post (f0, f1, (nI N), a1, a2, a3, a4, a5, a6, a7, a8, a9, a10, a11, a12, a13) (nI d) (nI (od p)) := by
  have ho := hP.1 p hp
  have e6 : a6 (nI (od p)).toNatClampNeg = nI (fs_pv pl (p + 1) N) := by rw [nI_clamp (by omega)]; exact hA.2 p hp
  have e1 : (161 : Int32) * nI d = nI (161 * d) := pk_mul 161 d
  have e2 : nI (161 * d) + 161 = nI (161 * (d + 1)) := by
    show nI (161 * d) + nI 161 = _
    rw [nI_add]
    exact congrArg nI (by omega)
  refine nm_r e1 (nm_r e2 ?_)
  refine pk_loop (fun m i s => wX_liftWeights_16 post (nI (od p)) (nI (161 * d)) (nI (161 * (d + 1))) f0 f1 (nI N) m (nI i) a1 a2 a3 a4 a5 a6 a7 a8 a9 a10 s a12 a13) (fun i s => (∀ j, j < 161 * (d + 1) → s j = a11 j) ∧ ∀ y, y < i → s (161 * (d + 1) + y) = 0) N 0 a11 (by omega) ⟨fun j _ => rfl, fun y hy => absurd hy (by omega)⟩ ?_ ?_
  · intro m s hI
    obtain ⟨i1, i2⟩ := hI
    refine pk_le N N (fun _ => ⟨pk_in (od p) 8 ho, nm_r e6 ?_⟩) (fun z => absurd z (by omega))
    exact fs_l50 (od := od) (key := key) (w := fun x => fs_num (fun b => G b && fs_ps A key pl b x) n) (W := fs_W A G n p key pl) hT hN hA hp (by omega) (by omega) (fun x => Nat.le_trans (fs_W_le A G n p key pl x) hn) (fun x => Nat.le_trans (fs_num_le _ _) hn)
      (fun x hx => fs_id2 hT hC hp hx G) (fun x x1 x2 x3 => by rw [i1 _ (by omega)]; exact hw x x1 x2 x3) i2 (fun s' g1 g2 => H s' (fun j hj => by rw [g1 j hj, i1 j hj]) g2)
  · intro m i s hi hI hk
    obtain ⟨i1, i2⟩ := hI
    have e3 : nI (161 * (d + 1)) + nI i = nI (161 * (d + 1) + i) := nI_add _ _
    refine pk_le N i (fun z => absurd z (by omega)) (fun _ => ⟨pk_in (161 * (d + 1) + i) 1449 (by omega) e3, nm_r (show upd s (nI (161 * (d + 1)) + nI i).toNatClampNeg 0 = upd s (161 * (d + 1) + i) 0 by rw [e3, nI_clamp (by omega)]) (nm_r (nI_1 i) (hk _ ⟨fun j hj => ?_, fun y hy => ?_⟩))⟩)
    · rw [pk_un (by omega)]; exact i1 j hj
    · by_cases c : y = i
      · rw [c, pk_us]
      · rw [pk_un (by omega)]; exact i2 y (by omega)
end
section
/-! growing sets: what a level owes -/
/-- the sets that the level (S, k) is to visit hold 0 -/
def fs_Z (od : Nat → Nat) (S k : Nat) (c : Nat → Int32) : Prop := ∀ s, s < 256 → fs_R od S k s → s ≠ S → c s = 0
/-- b is c but for the sets of the level (S, k), and these are counted -/
def fs_Kc (od : Nat → Nat) (cn : Nat → Nat) (S k : Nat) (c b : Nat → Int32) : Prop := ∀ s, s < 256 → (fs_R od S k s → s ≠ S → b s = nI (cn s)) ∧ ((¬ fs_R od S k s ∨ s = S) → b s = c s)
theorem fs_Kc_0 {od : Nat → Nat} {cn : Nat → Nat} {S : Nat} {c : Nat → Int32} (hP : fs_Pm od) (hS : S < 256) : fs_Kc od cn S 0 c c :=
  fun s hs => ⟨fun h n => absurd (fs_R_0 hP hS hs h) n, fun _ => rfl⟩
theorem fs_Z_le {od : Nat → Nat} {S k : Nat} {c : Nat → Int32} (h : fs_Z od S (k + 1) c) : fs_Z od S k c := fun s hs hr n => h s hs (fs_R_lo hr) n
theorem fs_Kc_skip {od : Nat → Nat} {cn : Nat → Nat} {S k : Nat} {c b : Nat → Int32} (hP : fs_Pm od) (hk : k < 8) (hL : S.testBit (od k) = false) (hz : fs_Z od S (k + 1) c)
    (h0 : ∀ s, s < 256 → fs_R od (S ||| 2 ^ od k) k s → cn s = 0) (h : fs_Kc od cn S k c b) : fs_Kc od cn S (k + 1) c b := by
  intro s hs
  obtain ⟨g1, g2⟩ := h s hs
  refine ⟨fun hr n => ?_, fun hr => ?_⟩
  · rcases fs_R_or hP hk hr hL with z | z
    · exact g1 z n
    · rw [g2 (Or.inl (fun w => fs_R_dis hk hL w z)), hz s hs hr n, h0 s hs z]
      rfl
  · rcases hr with z | z
    · exact g2 (Or.inl (fun w => z (fs_R_lo w)))
    · exact g2 (Or.inr z)
theorem fs_ne_or {od : Nat → Nat} {S k : Nat} (hL : S.testBit (od k) = false) : S ||| 2 ^ od k ≠ S := by
  intro e
  have : (S ||| 2 ^ od k).testBit (od k) = true := by rw [fs_bit_or, decide_eq_true rfl, Bool.or_true]
  rw [e, hL] at this
  exact absurd this (by decide)
theorem fs_Z_push {od : Nat → Nat} {S k : Nat} {c : Nat → Int32} {v : Int32} (hP : fs_Pm od) (hk : k < 8) (hL : S.testBit (od k) = false) (hz : fs_Z od S (k + 1) c) : fs_Z od (S ||| 2 ^ od k) k (upd c (S ||| 2 ^ od k) v) := by
  intro s hs hr n
  rw [pk_un n]
  refine hz s hs (fs_R_hi hP hk hr) (fun e => ?_)
  rw [e] at hr
  exact fs_R_dis hk hL (fs_R_self od S k) hr
theorem fs_Z_pop {od : Nat → Nat} {cn : Nat → Nat} {S k : Nat} {c b : Nat → Int32} {v : Int32} (hk : k < 8) (hL : S.testBit (od k) = false) (hz : fs_Z od S (k + 1) c)
    (h : fs_Kc od cn (S ||| 2 ^ od k) k (upd c (S ||| 2 ^ od k) v) b) : fs_Z od S k b := by
  intro s hs hr n
  have hn := fs_R_dis hk hL hr
  rw [(h s hs).2 (Or.inl hn), pk_un (fun e => hn (by rw [e]; exact fs_R_self _ _ _))]
  exact hz s hs (fs_R_lo hr) n
theorem fs_Kc_push {od : Nat → Nat} {cn : Nat → Nat} {S k : Nat} {c b e : Nat → Int32} (hP : fs_Pm od) (hk : k < 8) (hL : S.testBit (od k) = false)
    (h : fs_Kc od cn (S ||| 2 ^ od k) k (upd c (S ||| 2 ^ od k) (nI (cn (S ||| 2 ^ od k)))) b) (g : fs_Kc od cn S k b e) : fs_Kc od cn S (k + 1) c e := by
  intro s hs
  obtain ⟨g1, g2⟩ := g s hs
  obtain ⟨h1, h2⟩ := h s hs
  refine ⟨fun hr n => ?_, fun hr => ?_⟩
  · rcases fs_R_or hP hk hr hL with z | z
    · exact g1 z n
    · rw [g2 (Or.inl (fun w => fs_R_dis hk hL w z))]
      by_cases es : s = S ||| 2 ^ od k
      · rw [h2 (Or.inr es), es, pk_us]
      · exact h1 z es
  · have z2 : ¬ fs_R od (S ||| 2 ^ od k) k s := by
      intro w
      rcases hr with z | z
      · exact z (fs_R_hi hP hk w)
      · rw [z] at w
        exact fs_R_dis hk hL (fs_R_self od S k) w
    have z3 : e s = b s := by
      rcases hr with z | z
      · exact g2 (Or.inl (fun w => z (fs_R_lo w)))
      · exact g2 (Or.inr z)
    rw [z3, h2 (Or.inl z2), pk_un (fun q => z2 (by rw [q]; exact fs_R_self _ _ _))]
/-- the steps that a level may take -/
def fs_F : Nat → Nat
  | 0 => 0
  | k + 1 => 2 * fs_F k + 2
/-- the weights of a level -/
def fs_Rw (A : Nat → Nat → Bool) (G : Nat → Bool) (n N k : Nat) (key pl : Nat → Nat) (d : Nat) (a11 : Nat → Int32) : Prop :=
  ∀ x, 1 ≤ x → x < N → pl x ≤ k → a11 (161 * d + x) = nI (fs_num (fun b => G b && fs_ps A key pl b x) n)
theorem fs_g_neg : (0 : Int32) ≤ -1 ↔ False := by decide
theorem fs_grow {post : St2 → Prop} {f0 f1 : Int32} {a1 a2 a3 a4 a5 a6 a7 a8 a9 : Nat → Int32} {od B key pl ab : Nat → Nat} {n N : Nat} (hP : fs_Pm od) (h7 : ∀ q, q < 8 → a7 q = nI (od q)) (hn : n ≤ 20) (hN : N ≤ 161)
    (hT : fs_Tr N key pl ab) (hA : fs_Ar od N pl ab a4 a5 a6) (hC : fs_Co (fun b q => (B b).testBit (od q)) n N key pl) :
    ∀ k d S, d + k ≤ 8 → S < 256 → fs_Lo od S k → ∀ a10 a11 a12 a13 n0, a12 d = nI S → a13 d = fs_g k →
      fs_Rw (fun b q => (B b).testBit (od q)) (fun b => fs_sub S (B b)) n N k key pl d a11 → fs_Z od S k a10 →
      (∀ b10 b11 b12 b13, (∀ j, j < 161 * (d + 1) → b11 j = a11 j) → (∀ j, j ≤ d → b12 j = a12 j) → (∀ j, j < d → b13 j = a13 j) → b13 d = -1 → fs_Kc od (fs_cnt B n) S k a10 b10 →
        ∀ m, n0 ≤ m → wX_growSets_78 post m (nI d) f0 f1 (nI N) a1 a2 a3 a4 a5 a6 a7 a8 a9 b10 b11 b12 b13) →
      ∀ m, n0 + fs_F k ≤ m → wX_growSets_78 post m (nI d) f0 f1 (nI N) a1 a2 a3 a4 a5 a6 a7 a8 a9 a10 a11 a12 a13 := by
  intro k
  induction k with
  | zero =>
    intro d S hdk hS hL a10 a11 a12 a13 n0 h12 h13 hr hz K m hm
    exact K a10 a11 a12 a13 (fun _ _ => rfl) (fun _ _ => rfl) (fun _ _ => rfl) h13 (fs_Kc_0 hP hS) m hm
  | succ k ih =>
    intro d S hdk hS hL a10 a11 a12 a13 n0 h12 h13 hr hz K m hm
    obtain ⟨m', rfl⟩ : ∃ m', m = m' + 1 := ⟨m - 1, by have : fs_F (k + 1) = 2 * fs_F k + 2 := rfl; omega⟩
    have hF : fs_F (k + 1) = 2 * fs_F k + 2 := rfl
    have hk : k < 8 := by omega
    have ho := hP.1 k hk
    have hLk : S.testBit (od k) = false := hL k (by omega)
    have ed : (nI d).toNatClampNeg = d := nI_clamp (by omega)
    have hin : vp_in (nI d) 9 := pk_in d 9 (by omega)
    have e13 : a13 (nI d).toNatClampNeg = nI k := by rw [ed]; exact h13
    have eu13 : upd a13 (nI d).toNatClampNeg ((a13 (nI d).toNatClampNeg - 1).toInt8.toInt32) = upd a13 d (fs_g k) := by rw [e13, ed, fs_g1 k hk]
    have e7 : a7 (nI k).toNatClampNeg = nI (od k) := by rw [nI_clamp (by omega)]; exact h7 k hk
    have hcn : fs_ls (fun x => fs_num (fun b => fs_sub S (B b) && fs_ps (fun b q => (B b).testBit (od q)) key pl b x) n) pl (k + 1) N = fs_cnt B n (S ||| 2 ^ od k) := by
      rw [fs_id1 hT hC hk (fun b => fs_sub S (B b))]
      exact fs_num_congr (fun b _ => (fs_sub_or S (od k) (B b)).symm)
    have hcl := fs_cnt_le B n (S ||| 2 ^ od k)
    refine br_f (nI_pos (by omega)) ⟨hin, nm_r e13 (br_t (nI_pos' (by omega)) ⟨hin, hin, nm_r eu13 ⟨pk_in k 8 hk, nm_r e7 ?_⟩⟩)⟩
    refine fs_count hP hT hN hA hk (by omega) (fun x x1 x2 x3 => hr x x1 x2 (by omega)) ?_
    rw [hcn]
    have rk : ∀ c11 : Nat → Int32, (∀ j, j < 161 * (d + 1) → c11 j = a11 j) → fs_Rw (fun b q => (B b).testBit (od q)) (fun b => fs_sub S (B b)) n N k key pl d c11 := by
      intro c11 hc x x1 x2 x3
      rw [hc _ (by omega)]
      exact hr x x1 x2 (by omega)
    refine pk_eq (fs_cnt B n (S ||| 2 ^ od k)) 0 (fun z => ?_) (fun z => ⟨hin, ?_⟩)
    · -- nobody has it: on with the next place
      refine ih d S (by omega) hS (fs_Lo_le hL) a10 a11 a12 (upd a13 d (fs_g k)) n0 h12 pk_us (rk a11 (fun _ _ => rfl)) (fs_Z_le hz) (fun b10 b11 b12 b13 g1 g2 g3 g4 g5 => ?_) m' (by omega)
      refine K b10 b11 b12 b13 g1 g2 (fun j hj => by rw [g3 j hj, pk_un (by omega)]) g4 (fs_Kc_skip hP hk hLk hz (fun s hs hrs => ?_) g5)
      have := fs_cnt_mono (B := B) (n := n) (fs_R_sub hP (fs_or_lt hS ho) (fs_Lo_or hP hk hL) hrs)
      omega
    · -- a level more
      have hS' : S ||| 2 ^ od k < 256 := fs_or_lt hS ho
      have e5 : a12 (nI d).toNatClampNeg ||| ((1 : Int32) <<< (nI (od k) &&& 31)) = nI (S ||| 2 ^ od k) := by rw [ed, h12]; exact fs_i2 S hS (od k) ho
      have e10 : upd a10 (nI (S ||| 2 ^ od k)).toNatClampNeg (nI (fs_cnt B n (S ||| 2 ^ od k))).toInt8.toInt32 = upd a10 (S ||| 2 ^ od k) (nI (fs_cnt B n (S ||| 2 ^ od k))) := by rw [nI_clamp (by omega), fs_i3 _ (by omega)]
      refine nm_r e5 ⟨pk_in (S ||| 2 ^ od k) 256 hS', nm_r e10 ?_⟩
      refine fs_lift hP hT hN hA hC hn hk (by omega) (fun x x1 x2 x3 => hr x x1 x2 (by omega)) (fun s s1 s2 => ?_)
      have hin1 : vp_in (nI (d + 1)) 9 := pk_in (d + 1) 9 (by omega)
      refine nm_r (nI_1 d) ⟨hin1, nm_r (show upd a12 (nI (d + 1)).toNatClampNeg (nI (S ||| 2 ^ od k)).toInt16.toInt32 = upd a12 (d + 1) (nI (S ||| 2 ^ od k)) by rw [nI_clamp (by omega), fs_i4 _ hS']) ⟨hin1, nm_r (show upd (upd a13 d (fs_g k)) (nI (d + 1)).toNatClampNeg ((nI k - 1).toInt8.toInt32) = upd (upd a13 d (fs_g k)) (d + 1) (fs_g k) by rw [nI_clamp (by omega), fs_g1 k hk]) ?_⟩⟩
      refine ih (d + 1) (S ||| 2 ^ od k) (by omega) hS' (fs_Lo_or hP hk hL) _ s _ _ (n0 + fs_F k + 1) pk_us pk_us (fun x x1 x2 x3 => ?_) (fs_Z_push hP hk hLk hz) (fun b10 b11 b12 b13 g1 g2 g3 g4 g5 => ?_) m' (by omega)
      · rw [s2 x x2]
        unfold fs_W
        rw [if_pos (by omega)]
        exact congrArg nI (fs_num_congr (fun b _ => by dsimp only; rw [fs_sub_or]))
      · -- back from it
        intro m2 hm2
        obtain ⟨m3, rfl⟩ : ∃ m3, m2 = m3 + 1 := ⟨m2 - 1, by omega⟩
        have e13b : b13 (nI (d + 1)).toNatClampNeg = -1 := by rw [nI_clamp (by omega)]; exact g4
        refine br_f (nI_pos (by omega)) ⟨hin1, nm_r e13b (br_f (by decide) (nm_r (pk_m1 d) ?_))⟩
        have hb11 : ∀ j, j < 161 * (d + 1) → b11 j = a11 j := fun j hj => by rw [g1 j (by omega), s1 j hj]
        have hb12 : ∀ j, j ≤ d → b12 j = a12 j := fun j hj => by rw [g2 j (by omega), pk_un (by omega)]
        refine ih d S (by omega) hS (fs_Lo_le hL) b10 b11 b12 b13 n0 (by rw [hb12 d (by omega), h12]) (by rw [g3 d (by omega), pk_un (by omega), pk_us]) (rk b11 hb11) (fs_Z_pop hk hLk hz g5) (fun c10 c11 c12 c13 k1 k2 k3 k4 k5 => ?_) m3 (by omega)
        exact K c10 c11 c12 c13 (fun j hj => by rw [k1 j hj, hb11 j hj]) (fun j hj => by rw [k2 j hj, hb12 j hj]) (fun j hj => by rw [k3 j hj, g3 j (by omega), pk_un (by omega), pk_un (by omega)]) k4 (fs_Kc_push hP hk hLk g5 k5)
theorem fs_g35 {post : St2 → Prop} {f1 : Int32} {a1 a2 a3 a4 a5 a6 a7 a8 a9 a10 a11 a12 a13 : Nat → Int32} {od B key pl ab : Nat → Nat} {n N : Nat} (hP : fs_Pm od) (h7 : ∀ q, q < 8 → a7 q = nI (od q)) (hn : n ≤ 20) (hTn : fs_Tn od (fun b q => (B b).testBit (od q)) n N key pl ab a3 a4 a5 a6)
    (hz : ∀ s, s < 256 → s ≠ 0 → a10 s = 0) (h0 : a10 0 = nI n)
    (H : ∀ b10 b11 b12 b13, (∀ s, s < 256 → b10 s = nI (fs_cnt B n s)) → post ((nI n), f1, (nI N), a1, a2, a3, a4, a5, a6, a7, a8, a9, b10, b11, b12, b13)) : ∃ m, wX_growSets_35 post (nI n) f1 (nI N) m 0 a1 a2 a3 a4 a5 a6 a7 a8 a9 a10 a11 a12 a13 := by
  obtain ⟨hT, hA, hC, h3, h5⟩ := hTn
  refine pk_loop (fun m i s => wX_growSets_35 post (nI n) f1 (nI N) m (nI i) a1 a2 a3 a4 a5 a6 a7 a8 a9 a10 s a12 a13) (fun i s => ∀ x, 1 ≤ x → x < i → s x = a3 x) N 0 a11 (by omega) (fun x x1 x2 => absurd x2 (by omega)) ?_ ?_
  · intro m s hI
    refine pk_le N N (fun _ => nm_e (nm_e ⟨2 + fs_F 8, ?_⟩)) (fun z => absurd z (by omega))
    refine fs_grow hP h7 hn (by omega) hT hA hC 8 0 0 (by omega) (by omega) (fun q _ => Nat.zero_testBit _) a10 s (upd a12 0 0) (upd a13 0 7) 2 pk_us pk_us (fun x x1 x2 x3 => ?_) (fun t ht _ hne => hz t ht hne) (fun b10 b11 b12 b13 g1 g2 g3 g4 g5 m hm => ?_) _ (Nat.le_refl _)
    · rw [show 161 * 0 + x = x by omega, hI x x1 x2, h3 x x1 x2]
      exact congrArg nI (fs_num_congr (fun b _ => by dsimp only; rw [fs_sub_0, Bool.true_and]))
    · obtain ⟨m', rfl⟩ : ∃ m', m = m' + 1 + 1 := ⟨m - 2, by omega⟩
      have e13b : b13 (nI 0).toNatClampNeg = -1 := by rw [nI_clamp (by omega)]; exact g4
      refine br_f (nI_pos (by omega)) ⟨pk_in 0 9 (by omega), nm_r e13b (br_f (by decide) (nm_r (show nI 0 + (-1) = -1 by decide) (br_t (by decide) ?_)))⟩
      refine H b10 b11 b12 b13 (fun t ht => ?_)
      by_cases e : t = 0
      · rw [(g5 t ht).2 (Or.inr e), e, h0, fs_cnt_0]
      · exact (g5 t ht).1 (fs_R_8 od 0 t) e
  · intro m i s hi hI hw
    have ei : (nI i).toNatClampNeg = i := nI_clamp (by omega)
    refine pk_le N i (fun z => absurd z (by omega)) (fun _ => ⟨pk_in i 161 (by omega), pk_in i 1449 (by omega), nm_r (show upd s (nI i).toNatClampNeg (vp_nar .byte (a3 (nI i).toNatClampNeg)) = upd s i (vp_nar .byte (a3 i)) by rw [ei]) (nm_r (nI_1 i) (hw _ (fun x x1 x2 => ?_)))⟩)
    by_cases e : x = i
    · rw [e, pk_us, h3 i (by omega) hi]
      exact fs_n8 (by have := fs_num_le (fun b => fs_ps (fun b q => (B b).testBit (od q)) key pl b i) n; omega)
    · rw [pk_un e]
      exact hI x x1 (by omega)
theorem fs_growSets {post : St2 → Prop} {f1 : Int32} {a1 a2 a3 a4 a5 a6 a7 a8 a9 a10 a11 a12 a13 : Nat → Int32} {od B key pl ab : Nat → Nat} {n N : Nat} (hP : fs_Pm od) (h7 : ∀ q, q < 8 → a7 q = nI (od q)) (hn : n ≤ 20) (hTn : fs_Tn od (fun b q => (B b).testBit (od q)) n N key pl ab a3 a4 a5 a6)
    (H : ∀ b10 b11 b12 b13, (∀ s, s < 256 → b10 s = nI (fs_cnt B n s)) → post ((nI n), f1, (nI N), a1, a2, a3, a4, a5, a6, a7, a8, a9, b10, b11, b12, b13)) : wpX_growSets post ((nI n), f1, (nI N), a1, a2, a3, a4, a5, a6, a7, a8, a9, a10, a11, a12, a13) := by
  refine pk_loop (fun m i s => wX_growSets_2 post (nI n) f1 (nI N) m (nI i) a1 a2 a3 a4 a5 a6 a7 a8 a9 s a11 a12 a13) (fun i s => ∀ x, x < i → s x = 0) 256 0 a10 (by omega) (fun x hx => absurd hx (by omega)) ?_ ?_
  · intro m s hI
    refine pk_le 256 256 (fun _ => nm_r (show upd s 0 (nI n).toInt8.toInt32 = upd s 0 (nI n) by rw [fs_i3 n (by omega)]) ?_) (fun z => absurd z (by omega))
    exact fs_g35 hP h7 hn hTn (fun t ht hne => by rw [pk_un hne]; exact hI t ht) pk_us H
  · intro m i s hi hI hw
    refine pk_le 256 i (fun z => absurd z (by omega)) (fun _ => ⟨pk_in i 256 hi, nm_r (show upd s (nI i).toNatClampNeg 0 = upd s i 0 by rw [nI_clamp (by omega)]) (nm_r (nI_1 i) (hw _ (fun x hx => ?_)))⟩)
    by_cases e : x = i
    · rw [e, pk_us]
    · rw [pk_un e]; exact hI x (by omega)
end
section
/-! build -/
theorem fs_b56 {post : St2 → Prop} {f1 : Int32} {a1 a7 a8 a9 : Nat → Int32} {od B : Nat → Nat} {n : Nat} (hP : fs_Pm od) (h7 : ∀ q, q < 8 → a7 q = nI (od q)) (hn : n ≤ 20) (hB : ∀ b, b < n → B b < 256 ∧ a1 b = nI (B b))
    (H : ∀ f2 a2 a3 a4 a5 a6 a10 a11 a12 a13, (∀ s, s < 256 → a10 s = nI (fs_cnt B n s)) → post ((nI n), f1, f2, a1, a2, a3, a4, a5, a6, a7, a8, a9, a10, a11, a12, a13)) :
    ∀ k i, i + k = n → ∀ N key pl ab a2 a3 a4 a5 a6 a10 a11 a12 a13, fs_Tn od (fun b q => (B b).testBit (od q)) i N key pl ab a3 a4 a5 a6 → wX_build_56 post (k + 1) (nI i) (nI n) f1 (nI N) a1 a2 a3 a4 a5 a6 a7 a8 a9 a10 a11 a12 a13 := by
  intro k
  induction k with
  | zero =>
    intro i hi N key pl ab a2 a3 a4 a5 a6 a10 a11 a12 a13 h
    have e : i = n := by omega
    subst e
    refine pk_le i i (fun _ => ?_) (fun z => absurd z (by omega))
    exact fs_growSets hP h7 hn h (fun b10 b11 b12 b13 g => H _ _ _ _ _ _ _ _ _ _ g)
  | succ k ih =>
    intro i hi N key pl ab a2 a3 a4 a5 a6 a10 a11 a12 a13 h
    have hb := hB i (by omega)
    refine pk_le n i (fun z => absurd z (by omega)) (fun _ => ⟨pk_in i 20 (by omega), ?_⟩)
    have e1 : a1 (nI i).toNatClampNeg = nI (B i) := by rw [nI_clamp (by omega)]; exact hb.2
    rw [e1]
    exact fs_plant hP h7 (by omega) hb.1 h (fun N' key' pl' ab' b2 b3 b4 b5 b6 g => nm_r (nI_1 i) (ih (i + 1) (by omega) N' key' pl' ab' b2 b3 b4 b5 b6 a10 a11 a12 a13 g))
theorem fs_b35 {post : St2 → Prop} {f1 : Int32} {a1 a2 a3 a4 a5 a6 a7 a8 a9 a10 a11 a12 a13 : Nat → Int32} {od B : Nat → Nat} {n : Nat} (hP : fs_Pm od) (h7 : ∀ q, q < 8 → a7 q = nI (od q)) (hn : n ≤ 20) (hB : ∀ b, b < n → B b < 256 ∧ a1 b = nI (B b))
    (H : ∀ f2 a2 a3 a4 a5 a6 a10 a11 a12 a13, (∀ s, s < 256 → a10 s = nI (fs_cnt B n s)) → post ((nI n), f1, f2, a1, a2, a3, a4, a5, a6, a7, a8, a9, a10, a11, a12, a13)) : ∃ m, wX_build_35 post (nI n) f1 1 m 0 a1 a2 a3 a4 a5 a6 a7 a8 a9 a10 a11 a12 a13 := by
  refine pk_loop (fun m i s => wX_build_35 post (nI n) f1 1 m (nI i) a1 a2 a3 a4 a5 s a7 a8 a9 a10 a11 a12 a13) (fun i s => ∀ t, t < i → s t = 0) 8 0 a6 (by omega) (fun t ht => absurd ht (by omega)) ?_ ?_
  · intro m s hI
    refine pk_le 8 8 (fun _ => ⟨n + 1, fs_b56 hP h7 hn hB H n 0 (by omega) 1 (fun _ => 0) (fun _ => 0) (fun _ => 0) a2 a3 a4 a5 s a10 a11 a12 a13 ⟨⟨Nat.le_refl 1, rfl, rfl, fun x x1 x2 => absurd x2 (by omega), fun x hx => ?_, fun x y hx hy _ => by omega⟩, ⟨fun x x1 x2 => absurd x2 (by omega), fun q hq => ?_⟩, fun b hb => absurd hb (by omega), fun x x1 x2 => absurd x2 (by omega), by omega⟩⟩) (fun z => absurd z (by omega))
    · exact Nat.zero_lt_one
    · rw [hI _ (hP.1 q hq), fs_pv_f (by omega)]
      rfl
  · intro m i s hi hI hw
    refine pk_le 8 i (fun z => absurd z (by omega)) (fun _ => ⟨pk_in i 8 hi, nm_r (show upd s (nI i).toNatClampNeg 0 = upd s i 0 by rw [nI_clamp (by omega)]) (nm_r (nI_1 i) (hw _ (fun t ht => ?_)))⟩)
    by_cases e : t = i
    · rw [e, pk_us]
    · rw [pk_un e]; exact hI t (by omega)
/-! the object: n baskets B; once built it has all counts -/
def fs_Bs (n : Nat) (B : Nat → Nat) (f0 : Int32) (a1 : Nat → Int32) : Prop := n ≤ 20 ∧ f0 = nI n ∧ ∀ b, b < n → B b < 256 ∧ a1 b = nI (B b)
def fs_Bt (n : Nat) (B : Nat → Nat) (f0 f1 : Int32) (a1 a10 : Nat → Int32) : Prop := fs_Bs n B f0 a1 ∧ f1 = 1 ∧ ∀ s, s < 256 → a10 s = nI (fs_cnt B n s)
def fs_Ob (n : Nat) (B : Nat → Nat) (f0 f1 : Int32) (a1 a10 : Nat → Int32) : Prop := (fs_Bs n B f0 a1 ∧ f1 = 0) ∨ fs_Bt n B f0 f1 a1 a10
theorem fs_bld {post : St2 → Prop} {f0 f1 f2 : Int32} {a1 a2 a3 a4 a5 a6 a7 a8 a9 a10 a11 a12 a13 : Nat → Int32} {n : Nat} {B : Nat → Nat} (h : fs_Ob n B f0 f1 a1 a10) (H : ∀ f0 f1 f2 a1 a2 a3 a4 a5 a6 a7 a8 a9 a10 a11 a12 a13, fs_Bt n B f0 f1 a1 a10 → post (f0, f1, f2, a1, a2, a3, a4, a5, a6, a7, a8, a9, a10, a11, a12, a13)) : wpX_build post (f0, f1, f2, a1, a2, a3, a4, a5, a6, a7, a8, a9, a10, a11, a12, a13) := by
  rcases h with ⟨⟨h1, h2, h3⟩, h4⟩ | h
  · subst h2 h4
    refine br_t rfl (fs_order h1 (fun b7 b8 b9 od hP h7 => nm_e ?_))
    exact fs_b35 hP h7 h1 h3 (fun g2 b2 b3 b4 b5 b6 b10 b11 b12 b13 g => H _ _ _ _ _ _ _ _ _ _ _ _ _ _ _ _ ⟨⟨h1, rfl, h3⟩, rfl, g⟩)
  · refine br_f ?_ (H _ _ _ _ _ _ _ _ _ _ _ _ _ _ _ _ h)
    rw [h.2.1]
    decide
end
section
/-! the answers, as numbers -/
def fs_fq (cn : Nat → Nat) (m s : Nat) : Bool := decide (1 ≤ s ∧ m ≤ cn s)
noncomputable def fs_dec (P : Prop) : Bool := @decide P (Classical.propDecidable P)
theorem fs_dec_t {P : Prop} (h : P) : fs_dec P = true := @decide_eq_true P (Classical.propDecidable P) h
theorem fs_dec_f {P : Prop} (h : ¬ P) : fs_dec P = false := @decide_eq_false P (Classical.propDecidable P) h
noncomputable def fs_cl (cn : Nat → Nat) (m s : Nat) : Bool := fs_dec (1 ≤ s ∧ m ≤ cn s ∧ ∀ t, t < 8 → s.testBit t = false → cn (s ||| 2 ^ t) ≠ cn s)
noncomputable def fs_lg (cn : Nat → Nat) (m s : Nat) : Bool := fs_dec (1 ≤ s ∧ m ≤ cn s ∧ ∀ t, t < 8 → s.testBit t = false → cn (s ||| 2 ^ t) < m)
def fs_size (s : Nat) : Nat := fs_num (fun t => s.testBit t) 8
def fs_wd (cn : Nat → Nat) (m : Nat) : Nat → Nat
  | 0 => 0
  | i + 1 => if 1 ≤ i ∧ m ≤ cn i ∧ fs_wd cn m i < fs_size i then fs_size i else fs_wd cn m i
def fs_rp (cn : Nat → Nat) (pc i q : Nat) : Bool := decide (1 ≤ q ∧ fs_sub q i = true ∧ pc * cn q ≤ 100 * cn i)
def fs_rl (cn : Nat → Nat) (m pc : Nat) : Nat → Nat
  | 0 => 0
  | i + 1 => fs_rl cn m pc i + (if 1 ≤ i ∧ m ≤ cn i then fs_num (fs_rp cn pc i) i else 0)
def fs_cm (cn : Nat → Nat) (s : Nat) (b0 : Int32) : Nat → Int32 × Int32
  | 0 => (b0, -1)
  | t + 1 => if s.testBit t = false ∧ (fs_cm cn s b0 t).2 < nI (cn (s ||| 2 ^ t)) then (nI t, nI (cn (s ||| 2 ^ t))) else fs_cm cn s b0 t
theorem fs_bound {post : Int32 → Prop} {f0 f1 f2 : Int32} {a1 a2 a3 a4 a5 a6 a7 a8 a9 a10 a11 a12 a13 : Nat → Int32} {m : Nat} (h1 : 1 ≤ m) (h2 : m ≤ 20) (H : post 1) : wpX_isBound post (f0, f1, f2, a1, a2, a3, a4, a5, a6, a7, a8, a9, a10, a11, a12, a13) (nI m) :=
  pk_lt m 1 (fun z => absurd z (by omega)) (fun _ => pk_lt 20 m (fun z => absurd z (by omega)) (fun _ => H))
theorem fs_isSet {post : Int32 → Prop} {f0 f1 f2 : Int32} {a1 a2 a3 a4 a5 a6 a7 a8 a9 a10 a11 a12 a13 : Nat → Int32} {s : Nat} (h : s < 256) (H : post 1) : wpX_isSet post (f0, f1, f2, a1, a2, a3, a4, a5, a6, a7, a8, a9, a10, a11, a12, a13) (nI s) :=
  br_f (nI_pos (by omega)) (pk_lt 255 s (fun z => absurd z (by omega)) (fun _ => H))
/-- count -/
theorem fs_qcount {post : Int32 → St2 → Prop} {f0 f1 f2 : Int32} {a1 a2 a3 a4 a5 a6 a7 a8 a9 a10 a11 a12 a13 : Nat → Int32} {n s : Nat} {B : Nat → Nat} (h : fs_Ob n B f0 f1 a1 a10) (hs : s < 256)
    (H : ∀ f0 f1 f2 a1 a2 a3 a4 a5 a6 a7 a8 a9 a10 a11 a12 a13, fs_Bt n B f0 f1 a1 a10 → post (nI (fs_cnt B n s)) (f0, f1, f2, a1, a2, a3, a4, a5, a6, a7, a8, a9, a10, a11, a12, a13)) : wpX_count post (f0, f1, f2, a1, a2, a3, a4, a5, a6, a7, a8, a9, a10, a11, a12, a13) (nI s) := by
  unfold wpX_count
  refine fs_isSet hs ?_
  refine br_f (by decide) (fs_bld h (fun f0 f1 f2 a1 a2 a3 a4 a5 a6 a7 a8 a9 a10 a11 a12 a13 g => ⟨pk_in s 256 hs, ?_⟩))
  rw [nI_clamp (by omega), g.2.2 s hs]
  exact H f0 f1 f2 a1 a2 a3 a4 a5 a6 a7 a8 a9 a10 a11 a12 a13 g
/-- frequent -/
theorem fs_qfreq {post : Int32 → St2 → Prop} {f0 f1 f2 : Int32} {a1 a2 a3 a4 a5 a6 a7 a8 a9 a10 a11 a12 a13 : Nat → Int32} {n m : Nat} {B : Nat → Nat} (h : fs_Ob n B f0 f1 a1 a10) (h1 : 1 ≤ m) (h2 : m ≤ 20)
    (H : ∀ f0 f1 f2 a1 a2 a3 a4 a5 a6 a7 a8 a9 a10 a11 a12 a13, fs_Bt n B f0 f1 a1 a10 → post (nI (fs_num (fs_fq (fs_cnt B n) m) 256)) (f0, f1, f2, a1, a2, a3, a4, a5, a6, a7, a8, a9, a10, a11, a12, a13)) : wpX_frequent post (f0, f1, f2, a1, a2, a3, a4, a5, a6, a7, a8, a9, a10, a11, a12, a13) (nI m) := by
  unfold wpX_frequent
  refine fs_bound h1 h2 ?_
  refine br_f (by decide) (fs_bld h (fun f0 f1 f2 a1 a2 a3 a4 a5 a6 a7 a8 a9 a10 a11 a12 a13 g => ?_))
  refine pk_loop (σ := Unit) (fun k i _ => wX_frequent_18 post (nI m) f0 f1 f2 a1 a2 a3 a4 a5 a6 a7 a8 a9 a10 a11 a12 a13 k (nI (fs_num (fs_fq (fs_cnt B n) m) i)) (nI i)) (fun i _ => 1 ≤ i) 256 1 () (by omega) (Nat.le_refl 1) ?_ ?_
  · intro k _ _
    exact pk_le 256 256 (fun _ => H f0 f1 f2 a1 a2 a3 a4 a5 a6 a7 a8 a9 a10 a11 a12 a13 g) (fun z => absurd z (by omega))
  · intro k i _ hi hI hw
    have hl := fs_cnt_le B n i
    have hn := g.1.1
    have e : a10 (nI i).toNatClampNeg = nI (fs_cnt B n i) := by rw [nI_clamp (by omega)]; exact g.2.2 i hi
    have t := hw () (by omega)
    refine pk_le 256 i (fun z => absurd z (by omega)) (fun _ => ⟨pk_in i 256 hi, ?_⟩)
    refine pk_lt (fs_cnt B n i) m (fun z => ?_) (fun z => ?_) e
    · rw [fs_num_f (decide_eq_false (fun w => absurd w.2 (by omega)))] at t
      exact nm_r (nI_1 i) t
    · rw [fs_num_t (decide_eq_true ⟨hI, z⟩)] at t
      exact nm_r (nI_1 _) (nm_r (nI_1 i) t)
/-- isClosed -/
theorem fs_isClosed {post : Int32 → Prop} {f0 f1 f2 : Int32} {a1 a2 a3 a4 a5 a6 a7 a8 a9 a10 a11 a12 a13 : Nat → Int32} {n m s : Nat} {B : Nat → Nat} (g : fs_Bt n B f0 f1 a1 a10) (hm : m ≤ 20) (h1 : 1 ≤ s) (hs : s < 256) (H : post (nI (fs_cl (fs_cnt B n) m s).toNat)) : wpX_isClosed post (f0, f1, f2, a1, a2, a3, a4, a5, a6, a7, a8, a9, a10, a11, a12, a13) (nI s) (nI m) := by
  have hn := g.1.1
  have cl : ∀ x, fs_cnt B n x ≤ 20 := fun x => Nat.le_trans (fs_cnt_le B n x) hn
  have hl := cl s
  have e : a10 (nI s).toNatClampNeg = nI (fs_cnt B n s) := by rw [nI_clamp (by omega)]; exact g.2.2 s hs
  refine ⟨pk_in s 256 hs, pk_le m (fs_cnt B n s) (fun z => ?_) (fun z => ?_) rfl e⟩
  · refine pk_loop (σ := Unit) (fun k i _ => wX_isClosed_14 post (nI s) f0 f1 f2 a1 a2 a3 a4 a5 a6 a7 a8 a9 a10 a11 a12 a13 k (nI i)) (fun i _ => ∀ t, t < i → s.testBit t = false → fs_cnt B n (s ||| 2 ^ t) ≠ fs_cnt B n s) 8 0 () (by omega) (fun t ht => absurd ht (by omega)) ?_ ?_
    · intro k _ hI
      refine pk_le 8 8 (fun _ => ?_) (fun z => absurd z (by omega))
      have e1 : fs_cl (fs_cnt B n) m s = true := fs_dec_t ⟨h1, z, hI⟩
      rw [e1] at H
      exact H
    · intro k i _ hi hI hw
      have hor := fs_or_lt hs hi
      have cor := cl (s ||| 2 ^ i)
      refine pk_le 8 i (fun z => absurd z (by omega)) (fun _ => fs_ib s i hs hi (fun b => ?_) (fun b => ?_))
      · have e2 : nI s ||| ((1 : Int32) <<< (nI i &&& 31)) = nI (s ||| 2 ^ i) := fs_i2 s hs i hi
        have e3 : a10 (nI s ||| ((1 : Int32) <<< (nI i &&& 31))).toNatClampNeg = nI (fs_cnt B n (s ||| 2 ^ i)) := by rw [e2, nI_clamp (by omega)]; exact g.2.2 _ hor
        refine ⟨pk_in _ 256 hor e2, pk_in s 256 hs, pk_eq (fs_cnt B n (s ||| 2 ^ i)) (fs_cnt B n s) (fun w => ?_) (fun w => nm_r (nI_1 i) (hw () ?_)) e3 e⟩
        · have e1 : fs_cl (fs_cnt B n) m s = false := fs_dec_f (fun q => q.2.2 i hi b w)
          rw [e1] at H
          exact H
        · exact lt_s hI (fun _ => w)
      · exact nm_r (nI_1 i) (hw () (lt_s hI (fun c => by rw [b] at c; exact absurd c (by decide))))
  · have e1 : fs_cl (fs_cnt B n) m s = false := fs_dec_f (fun q => absurd q.2.1 (by omega))
    rw [e1] at H
    exact H
/-- closed -/
theorem fs_qclosed {post : Int32 → St2 → Prop} {f0 f1 f2 : Int32} {a1 a2 a3 a4 a5 a6 a7 a8 a9 a10 a11 a12 a13 : Nat → Int32} {n m : Nat} {B : Nat → Nat} (h : fs_Ob n B f0 f1 a1 a10) (h1 : 1 ≤ m) (h2 : m ≤ 20)
    (H : ∀ f0 f1 f2 a1 a2 a3 a4 a5 a6 a7 a8 a9 a10 a11 a12 a13, fs_Bt n B f0 f1 a1 a10 → post (nI (fs_num (fs_cl (fs_cnt B n) m) 256)) (f0, f1, f2, a1, a2, a3, a4, a5, a6, a7, a8, a9, a10, a11, a12, a13)) : wpX_closed post (f0, f1, f2, a1, a2, a3, a4, a5, a6, a7, a8, a9, a10, a11, a12, a13) (nI m) := by
  unfold wpX_closed
  refine fs_bound h1 h2 ?_
  refine br_f (by decide) (fs_bld h (fun f0 f1 f2 a1 a2 a3 a4 a5 a6 a7 a8 a9 a10 a11 a12 a13 g => ?_))
  have e0 : fs_num (fs_cl (fs_cnt B n) m) 1 = 0 := fs_num_f (fs_dec_f (fun q => absurd q.1 (by omega)))
  suffices L : ∃ f, wX_closed_18 post (nI m) f0 f1 f2 a1 a2 a3 a4 a5 a6 a7 a8 a9 a10 a11 a12 a13 f (nI (fs_num (fs_cl (fs_cnt B n) m) 1)) (nI 1) by
    rw [e0] at L
    exact L
  refine pk_loop (σ := Unit) (fun k i _ => wX_closed_18 post (nI m) f0 f1 f2 a1 a2 a3 a4 a5 a6 a7 a8 a9 a10 a11 a12 a13 k (nI (fs_num (fs_cl (fs_cnt B n) m) i)) (nI i)) (fun i _ => 1 ≤ i) 256 1 () (by omega) (Nat.le_refl 1) ?_ ?_
  · intro k _ _
    exact pk_le 256 256 (fun _ => H f0 f1 f2 a1 a2 a3 a4 a5 a6 a7 a8 a9 a10 a11 a12 a13 g) (fun z => absurd z (by omega))
  · intro k i _ hi hI hw
    have t := hw () (by omega)
    refine pk_le 256 i (fun z => absurd z (by omega)) (fun _ => fs_isClosed g h2 hI hi ?_)
    cases c : fs_cl (fs_cnt B n) m i
    · rw [fs_num_f c] at t
      exact br_t rfl (nm_r (nI_1 i) t)
    · rw [fs_num_t c] at t
      exact br_f (by decide) (nm_r (nI_1 _) (nm_r (nI_1 i) t))
/-- isLargest -/
theorem fs_isLargest {post : Int32 → Prop} {f0 f1 f2 : Int32} {a1 a2 a3 a4 a5 a6 a7 a8 a9 a10 a11 a12 a13 : Nat → Int32} {n m s : Nat} {B : Nat → Nat} (g : fs_Bt n B f0 f1 a1 a10) (hm : m ≤ 20) (h1 : 1 ≤ s) (hs : s < 256) (H : post (nI (fs_lg (fs_cnt B n) m s).toNat)) : wpX_isLargest post (f0, f1, f2, a1, a2, a3, a4, a5, a6, a7, a8, a9, a10, a11, a12, a13) (nI s) (nI m) := by
  have hn := g.1.1
  have cl : ∀ x, fs_cnt B n x ≤ 20 := fun x => Nat.le_trans (fs_cnt_le B n x) hn
  have hl := cl s
  have e : a10 (nI s).toNatClampNeg = nI (fs_cnt B n s) := by rw [nI_clamp (by omega)]; exact g.2.2 s hs
  refine ⟨pk_in s 256 hs, pk_le m (fs_cnt B n s) (fun z => ?_) (fun z => ?_) rfl e⟩
  · refine pk_loop (σ := Unit) (fun k i _ => wX_isLargest_14 post (nI s) (nI m) f0 f1 f2 a1 a2 a3 a4 a5 a6 a7 a8 a9 a10 a11 a12 a13 k (nI i)) (fun i _ => ∀ t, t < i → s.testBit t = false → fs_cnt B n (s ||| 2 ^ t) < m) 8 0 () (by omega) (fun t ht => absurd ht (by omega)) ?_ ?_
    · intro k _ hI
      refine pk_le 8 8 (fun _ => ?_) (fun z => absurd z (by omega))
      have e1 : fs_lg (fs_cnt B n) m s = true := fs_dec_t ⟨h1, z, hI⟩
      rw [e1] at H
      exact H
    · intro k i _ hi hI hw
      have hor := fs_or_lt hs hi
      have cor := cl (s ||| 2 ^ i)
      refine pk_le 8 i (fun z => absurd z (by omega)) (fun _ => fs_ib s i hs hi (fun b => ?_) (fun b => ?_))
      · have e2 : nI s ||| ((1 : Int32) <<< (nI i &&& 31)) = nI (s ||| 2 ^ i) := fs_i2 s hs i hi
        have e3 : a10 (nI s ||| ((1 : Int32) <<< (nI i &&& 31))).toNatClampNeg = nI (fs_cnt B n (s ||| 2 ^ i)) := by rw [e2, nI_clamp (by omega)]; exact g.2.2 _ hor
        refine ⟨pk_in _ 256 hor e2, pk_lt (fs_cnt B n (s ||| 2 ^ i)) m (fun w => nm_r (nI_1 i) (hw () ?_)) (fun w => ?_) e3⟩
        · exact lt_s hI (fun _ => w)
        · have e1 : fs_lg (fs_cnt B n) m s = false := fs_dec_f (fun q => absurd (q.2.2 i hi b) (by omega))
          rw [e1] at H
          exact H
      · exact nm_r (nI_1 i) (hw () (lt_s hI (fun c => by rw [b] at c; exact absurd c (by decide))))
  · have e1 : fs_lg (fs_cnt B n) m s = false := fs_dec_f (fun q => absurd q.2.1 (by omega))
    rw [e1] at H
    exact H
/-- largest -/
theorem fs_qlargest {post : Int32 → St2 → Prop} {f0 f1 f2 : Int32} {a1 a2 a3 a4 a5 a6 a7 a8 a9 a10 a11 a12 a13 : Nat → Int32} {n m : Nat} {B : Nat → Nat} (h : fs_Ob n B f0 f1 a1 a10) (h1 : 1 ≤ m) (h2 : m ≤ 20)
    (H : ∀ f0 f1 f2 a1 a2 a3 a4 a5 a6 a7 a8 a9 a10 a11 a12 a13, fs_Bt n B f0 f1 a1 a10 → post (nI (fs_num (fs_lg (fs_cnt B n) m) 256)) (f0, f1, f2, a1, a2, a3, a4, a5, a6, a7, a8, a9, a10, a11, a12, a13)) : wpX_largest post (f0, f1, f2, a1, a2, a3, a4, a5, a6, a7, a8, a9, a10, a11, a12, a13) (nI m) := by
  unfold wpX_largest
  refine fs_bound h1 h2 ?_
  refine br_f (by decide) (fs_bld h (fun f0 f1 f2 a1 a2 a3 a4 a5 a6 a7 a8 a9 a10 a11 a12 a13 g => ?_))
  have e0 : fs_num (fs_lg (fs_cnt B n) m) 1 = 0 := fs_num_f (fs_dec_f (fun q => absurd q.1 (by omega)))
  suffices L : ∃ f, wX_largest_18 post (nI m) f0 f1 f2 a1 a2 a3 a4 a5 a6 a7 a8 a9 a10 a11 a12 a13 f (nI (fs_num (fs_lg (fs_cnt B n) m) 1)) (nI 1) by
    rw [e0] at L
    exact L
  refine pk_loop (σ := Unit) (fun k i _ => wX_largest_18 post (nI m) f0 f1 f2 a1 a2 a3 a4 a5 a6 a7 a8 a9 a10 a11 a12 a13 k (nI (fs_num (fs_lg (fs_cnt B n) m) i)) (nI i)) (fun i _ => 1 ≤ i) 256 1 () (by omega) (Nat.le_refl 1) ?_ ?_
  · intro k _ _
    exact pk_le 256 256 (fun _ => H f0 f1 f2 a1 a2 a3 a4 a5 a6 a7 a8 a9 a10 a11 a12 a13 g) (fun z => absurd z (by omega))
  · intro k i _ hi hI hw
    have t := hw () (by omega)
    refine pk_le 256 i (fun z => absurd z (by omega)) (fun _ => fs_isLargest g h2 hI hi ?_)
    cases c : fs_lg (fs_cnt B n) m i
    · rw [fs_num_f c] at t
      exact br_t rfl (nm_r (nI_1 i) t)
    · rw [fs_num_t c] at t
      exact br_f (by decide) (nm_r (nI_1 _) (nm_r (nI_1 i) t))
/-- closedSet: the k-th one -/
theorem fs_qcset {post : Int32 → St2 → Prop} {f0 f1 f2 : Int32} {a1 a2 a3 a4 a5 a6 a7 a8 a9 a10 a11 a12 a13 : Nat → Int32} {n m k s : Nat} {B : Nat → Nat} (h : fs_Ob n B f0 f1 a1 a10) (h1 : 1 ≤ m) (h2 : m ≤ 20) (s1 : 1 ≤ s) (s2 : s < 256) (hc : fs_cl (fs_cnt B n) m s = true) (hk : fs_num (fs_cl (fs_cnt B n) m) s = k)
    (H : ∀ f0 f1 f2 a1 a2 a3 a4 a5 a6 a7 a8 a9 a10 a11 a12 a13, fs_Bt n B f0 f1 a1 a10 → post (nI s) (f0, f1, f2, a1, a2, a3, a4, a5, a6, a7, a8, a9, a10, a11, a12, a13)) : wpX_closedSet post (f0, f1, f2, a1, a2, a3, a4, a5, a6, a7, a8, a9, a10, a11, a12, a13) (nI m) (nI k) := by
  unfold wpX_closedSet
  refine fs_bound h1 h2 ?_
  refine br_f (by decide) (fs_bld h (fun f0 f1 f2 a1 a2 a3 a4 a5 a6 a7 a8 a9 a10 a11 a12 a13 g => ?_))
  have k256 := fs_num_le (fs_cl (fs_cnt B n) m) s
  have e0 : fs_num (fs_cl (fs_cnt B n) m) 1 = 0 := fs_num_f (fs_dec_f (fun q => absurd q.1 (by omega)))
  suffices L : ∃ f, wX_closedSet_19 post (nI m) f0 f1 f2 a1 a2 a3 a4 a5 a6 a7 a8 a9 a10 a11 a12 a13 f (nI (k - fs_num (fs_cl (fs_cnt B n) m) 1)) (nI 1) by
    rw [e0] at L
    exact L
  refine pk_loop (σ := Unit) (fun f i _ => wX_closedSet_19 post (nI m) f0 f1 f2 a1 a2 a3 a4 a5 a6 a7 a8 a9 a10 a11 a12 a13 f (nI (k - fs_num (fs_cl (fs_cnt B n) m) i)) (nI i)) (fun i _ => 1 ≤ i) s 1 () s1 (Nat.le_refl 1) ?_ ?_
  · intro f _ _
    refine pk_le 256 s (fun z => absurd z (by omega)) (fun _ => br_f (nI_pos (by omega)) (fs_isClosed g h2 s1 s2 ?_))
    rw [hc]
    refine br_f (by decide) (pk_eq (k - fs_num (fs_cl (fs_cnt B n) m) s) 0 (fun _ => H f0 f1 f2 a1 a2 a3 a4 a5 a6 a7 a8 a9 a10 a11 a12 a13 g) (fun z => absurd z (by omega)))
  · intro f i _ hi hI hw
    have t := hw () (by omega)
    refine pk_le 256 i (fun z => absurd z (by omega)) (fun _ => br_f (nI_pos (by omega)) (fs_isClosed g h2 hI (by omega) ?_))
    cases c : fs_cl (fs_cnt B n) m i
    · rw [fs_num_f c] at t
      exact br_t rfl (nm_r (nI_1 i) t)
    · have mo : fs_num (fs_cl (fs_cnt B n) m) (i + 1) ≤ fs_num (fs_cl (fs_cnt B n) m) s := fs_num_n (by omega)
      rw [fs_num_t c] at t mo
      refine br_f (by decide) (pk_eq (k - fs_num (fs_cl (fs_cnt B n) m) i) 0 (fun z => absurd z (by omega)) (fun _ => nm_r ?_ (nm_r (nI_1 i) t)))
      rw [sb_m1 (by omega)]
      exact congrArg nI (by omega)
/-- closedSet: behind the last -/
theorem fs_qcnone {post : Int32 → St2 → Prop} {f0 f1 f2 : Int32} {a1 a2 a3 a4 a5 a6 a7 a8 a9 a10 a11 a12 a13 : Nat → Int32} {n m k : Nat} {B : Nat → Nat} (h : fs_Ob n B f0 f1 a1 a10) (h1 : 1 ≤ m) (h2 : m ≤ 20) (hk : fs_num (fs_cl (fs_cnt B n) m) 256 = k)
    (H : ∀ f0 f1 f2 a1 a2 a3 a4 a5 a6 a7 a8 a9 a10 a11 a12 a13, fs_Bt n B f0 f1 a1 a10 → post (-3) (f0, f1, f2, a1, a2, a3, a4, a5, a6, a7, a8, a9, a10, a11, a12, a13)) : wpX_closedSet post (f0, f1, f2, a1, a2, a3, a4, a5, a6, a7, a8, a9, a10, a11, a12, a13) (nI m) (nI k) := by
  unfold wpX_closedSet
  refine fs_bound h1 h2 ?_
  refine br_f (by decide) (fs_bld h (fun f0 f1 f2 a1 a2 a3 a4 a5 a6 a7 a8 a9 a10 a11 a12 a13 g => ?_))
  have k256 := fs_num_le (fs_cl (fs_cnt B n) m) 256
  have e0 : fs_num (fs_cl (fs_cnt B n) m) 1 = 0 := fs_num_f (fs_dec_f (fun q => absurd q.1 (by omega)))
  suffices L : ∃ f, wX_closedSet_19 post (nI m) f0 f1 f2 a1 a2 a3 a4 a5 a6 a7 a8 a9 a10 a11 a12 a13 f (nI (k - fs_num (fs_cl (fs_cnt B n) m) 1)) (nI 1) by
    rw [e0] at L
    exact L
  refine pk_loop (σ := Unit) (fun f i _ => wX_closedSet_19 post (nI m) f0 f1 f2 a1 a2 a3 a4 a5 a6 a7 a8 a9 a10 a11 a12 a13 f (nI (k - fs_num (fs_cl (fs_cnt B n) m) i)) (nI i)) (fun i _ => 1 ≤ i) 256 1 () (by omega) (Nat.le_refl 1) ?_ ?_
  · intro f _ _
    exact pk_le 256 256 (fun _ => H f0 f1 f2 a1 a2 a3 a4 a5 a6 a7 a8 a9 a10 a11 a12 a13 g) (fun z => absurd z (by omega))
  · intro f i _ hi hI hw
    have t := hw () (by omega)
    refine pk_le 256 i (fun z => absurd z (by omega)) (fun _ => br_f (nI_pos (by omega)) (fs_isClosed g h2 hI (by omega) ?_))
    cases c : fs_cl (fs_cnt B n) m i
    · rw [fs_num_f c] at t
      exact br_t rfl (nm_r (nI_1 i) t)
    · have mo : fs_num (fs_cl (fs_cnt B n) m) (i + 1) ≤ fs_num (fs_cl (fs_cnt B n) m) 256 := fs_num_n (by omega)
      rw [fs_num_t c] at t mo
      refine br_f (by decide) (pk_eq (k - fs_num (fs_cl (fs_cnt B n) m) i) 0 (fun z => absurd z (by omega)) (fun _ => nm_r ?_ (nm_r (nI_1 i) t)))
      rw [sb_m1 (by omega)]
      exact congrArg nI (by omega)
/-- sizeOf -/
theorem fs_sizeOf {post : Int32 → Prop} {f0 f1 f2 : Int32} {a1 a2 a3 a4 a5 a6 a7 a8 a9 a10 a11 a12 a13 : Nat → Int32} {s : Nat} (hs : s < 256) (H : post (nI (fs_size s))) : wpX_sizeOf post (f0, f1, f2, a1, a2, a3, a4, a5, a6, a7, a8, a9, a10, a11, a12, a13) (nI s) :=
  pk_loop (σ := Unit) (fun k i _ => wX_sizeOf_4 post (nI s) f0 f1 f2 a1 a2 a3 a4 a5 a6 a7 a8 a9 a10 a11 a12 a13 k (nI (fs_num (fun t => s.testBit t) i)) (nI i)) (fun _ _ => True) 8 0 () (by omega) trivial
    (fun k _ _ => pk_le 8 8 (fun _ => H) (fun z => absurd z (by omega)))
    (fun k i _ hi _ hw => pk_le 8 i (fun z => absurd z (by omega)) (fun _ => nm_r (by rw [fs_i1 s hs i hi, nI_add]; rfl) (nm_r (nI_1 i) (hw () trivial))))
theorem fs_size_le (s : Nat) : fs_size s ≤ 8 := fs_num_le _ _
theorem fs_wd_le (cn : Nat → Nat) (m i : Nat) : fs_wd cn m i ≤ 8 := by
  induction i with
  | zero => exact Nat.zero_le _
  | succ i ih =>
    show (if 1 ≤ i ∧ m ≤ cn i ∧ fs_wd cn m i < fs_size i then fs_size i else fs_wd cn m i) ≤ 8
    by_cases c : 1 ≤ i ∧ m ≤ cn i ∧ fs_wd cn m i < fs_size i
    · rw [if_pos c]; exact fs_size_le i
    · rw [if_neg c]; exact ih
theorem fs_wd_t {cn : Nat → Nat} {m i : Nat} (h : 1 ≤ i ∧ m ≤ cn i ∧ fs_wd cn m i < fs_size i) : fs_wd cn m (i + 1) = fs_size i := if_pos h
theorem fs_wd_f {cn : Nat → Nat} {m i : Nat} (h : ¬ (1 ≤ i ∧ m ≤ cn i ∧ fs_wd cn m i < fs_size i)) : fs_wd cn m (i + 1) = fs_wd cn m i := if_neg h
/-- widest -/
theorem fs_qwidest {post : Int32 → St2 → Prop} {f0 f1 f2 : Int32} {a1 a2 a3 a4 a5 a6 a7 a8 a9 a10 a11 a12 a13 : Nat → Int32} {n m : Nat} {B : Nat → Nat} (h : fs_Ob n B f0 f1 a1 a10) (h1 : 1 ≤ m) (h2 : m ≤ 20)
    (H : ∀ f0 f1 f2 a1 a2 a3 a4 a5 a6 a7 a8 a9 a10 a11 a12 a13, fs_Bt n B f0 f1 a1 a10 → post (nI (fs_wd (fs_cnt B n) m 256)) (f0, f1, f2, a1, a2, a3, a4, a5, a6, a7, a8, a9, a10, a11, a12, a13)) : wpX_widest post (f0, f1, f2, a1, a2, a3, a4, a5, a6, a7, a8, a9, a10, a11, a12, a13) (nI m) := by
  unfold wpX_widest
  refine fs_bound h1 h2 ?_
  refine br_f (by decide) (fs_bld h (fun f0 f1 f2 a1 a2 a3 a4 a5 a6 a7 a8 a9 a10 a11 a12 a13 g => ?_))
  refine pk_loop (σ := Unit) (fun k i _ => wX_widest_18 post (nI m) f0 f1 f2 a1 a2 a3 a4 a5 a6 a7 a8 a9 a10 a11 a12 a13 k (nI (fs_wd (fs_cnt B n) m i)) (nI i)) (fun i _ => 1 ≤ i) 256 1 () (by omega) (Nat.le_refl 1) ?_ ?_
  · intro k _ _
    exact pk_le 256 256 (fun _ => H f0 f1 f2 a1 a2 a3 a4 a5 a6 a7 a8 a9 a10 a11 a12 a13 g) (fun z => absurd z (by omega))
  · intro k i _ hi hI hw
    have hl := fs_cnt_le B n i
    have hn := g.1.1
    have hs8 := fs_size_le i
    have hw8 := fs_wd_le (fs_cnt B n) m i
    have e : a10 (nI i).toNatClampNeg = nI (fs_cnt B n i) := by rw [nI_clamp (by omega)]; exact g.2.2 i hi
    have t := hw () (by omega)
    refine pk_le 256 i (fun z => absurd z (by omega)) (fun _ => fs_sizeOf hi ⟨pk_in i 256 hi, pk_lt (fs_cnt B n i) m (fun z => ?_) (fun z => pk_le (fs_size i) (fs_wd (fs_cnt B n) m i) (fun w => ?_) (fun w => ?_)) e⟩)
    · rw [fs_wd_f (fun q => absurd q.2.1 (by omega))] at t
      exact nm_r (nI_1 i) t
    · rw [fs_wd_f (fun q => absurd q.2.2 (by omega))] at t
      exact nm_r (nI_1 i) t
    · rw [fs_wd_t ⟨hI, z, w⟩] at t
      exact nm_r (nI_1 i) t
/-- rules -/
theorem fs_part0 : ∀ i, i < 32 → ∀ x, x < 32 → (x = 0 ∨ fs_sub x i = false ∨ ((x - 1) &&& i < x ∧ fs_sub ((x - 1) &&& i) i = true ∧ (nI x - 1) &&& nI i = nI ((x - 1) &&& i) ∧ ∀ q, q < x → (q ≤ (x - 1) &&& i ∨ fs_sub q i = false))) := by decide +kernel
theorem fs_part (i : Nat) (hi : i < 32) (x : Nat) (hx : x < 32) (h1 : 1 ≤ x) (hs : fs_sub x i = true) : ((x - 1) &&& i < x ∧ fs_sub ((x - 1) &&& i) i = true ∧ (nI x - 1) &&& nI i = nI ((x - 1) &&& i) ∧ ∀ q, q < x → (x - 1) &&& i < q → fs_sub q i = false) := by
  rcases fs_part0 i hi x hx with z | z | ⟨w1, w2, w3, w4⟩
  · omega
  · rw [hs] at z; exact absurd z (by decide)
  · refine ⟨w1, w2, w3, fun q q1 q2 => ?_⟩
    rcases w4 q q1 with z | z
    · omega
    · exact z
theorem fs_r60 {post : Int32 → St2 → Prop} {J : Int32 → Int32 → Prop} {m pc i base : Nat} {f0 f1 f2 : Int32} {a1 a2 a3 a4 a5 a6 a7 a8 a9 a10 a11 a12 a13 : Nat → Int32} {n : Nat} {B : Nat → Nat} (g : fs_Bt n B f0 f1 a1 a10) (hpc : pc ≤ 100) (hi0 : 1 ≤ i) (hi : i < 32)
    (H : J (nI (base + fs_num (fs_rp (fs_cnt B n) pc i) i)) (nI (i + 1))) : ∃ f, wX_rules_60 post J (nI m) (nI pc) (nI i) f0 f1 f2 a1 a2 a3 a4 a5 a6 a7 a8 a9 a10 a11 a12 a13 f (nI base) ((nI i - 1) &&& nI i) := by
  have hn := g.1.1
  have cl : ∀ x, fs_cnt B n x ≤ 20 := fun x => Nat.le_trans (fs_cnt_le B n x) hn
  have p0 : fs_rp (fs_cnt B n) pc i 0 = false := decide_eq_false (fun q => absurd q.1 (by omega))
  have gap : ∀ x, 1 ≤ x → x ≤ i → fs_sub x i = true → fs_num (fs_rp (fs_cnt B n) pc i) x = fs_num (fs_rp (fs_cnt B n) pc i) (((x - 1) &&& i) + 1) := by
    intro x x1 x2 x3
    obtain ⟨w1, w2, w3, w4⟩ := fs_part i hi x (by omega) x1 x3
    refine fs_num_stop (by omega) (fun q q1 q2 => decide_eq_false (fun z => ?_))
    have := w4 q q2 (by omega)
    rw [z.2.1] at this
    exact absurd this (by decide)
  obtain ⟨s1, s2, s3, s4⟩ := fs_part i hi i hi hi0 (fs_sub_self i)
  rw [s3]
  refine loop_m (fun f (z : Nat × Nat) => wX_rules_60 post J (nI m) (nI pc) (nI i) f0 f1 f2 a1 a2 a3 a4 a5 a6 a7 a8 a9 a10 a11 a12 a13 f (nI z.1) (nI z.2)) (fun z => z.2 < i ∧ fs_sub z.2 i = true ∧ z.1 + fs_num (fs_rp (fs_cnt B n) pc i) (z.2 + 1) = base + fs_num (fs_rp (fs_cnt B n) pc i) i) (fun z => z.2) ?_ (base, (i - 1) &&& i) ?_
  · intro f z hI hw
    obtain ⟨tot, x⟩ := z
    obtain ⟨i1, i2, i3⟩ := hI
    dsimp only at i1 i2 i3
    refine pk_le x 0 (fun z => ?_) (fun z => ?_)
    · have e : fs_num (fs_rp (fs_cnt B n) pc i) (x + 1) = 0 := by
        rw [show x = 0 by omega, fs_num_f p0]
        rfl
      rw [e, Nat.add_zero] at i3
      refine nm_r (nI_1 i) ?_
      show J (nI tot) (nI (i + 1))
      rw [i3]
      exact H
    · obtain ⟨w1, w2, w3, w4⟩ := fs_part i hi x (by omega) (by omega) i2
      have e1 : a10 (nI i).toNatClampNeg = nI (fs_cnt B n i) := by rw [nI_clamp (by omega)]; exact g.2.2 i (by omega)
      have e2 : a10 (nI x).toNatClampNeg = nI (fs_cnt B n x) := by rw [nI_clamp (by omega)]; exact g.2.2 x (by omega)
      have e3 : 100 * a10 (nI i).toNatClampNeg = nI (100 * fs_cnt B n i) := by rw [e1]; exact pk_mul 100 _
      have e4 : nI pc * a10 (nI x).toNatClampNeg = nI (pc * fs_cnt B n x) := by rw [e2]; exact pk_mul _ _
      have c1 := cl i
      have c2 := cl x
      have c3 : pc * fs_cnt B n x ≤ 100 * 20 := Nat.mul_le_mul hpc c2
      have gp := gap x (by omega) (by omega) i2
      refine ⟨pk_in i 256 (by omega), pk_in x 256 (by omega), pk_lt (100 * fs_cnt B n i) (pc * fs_cnt B n x) (fun q => ?_) (fun q => ?_) e3 e4⟩
      · have f0 := fs_num_f (p := fs_rp (fs_cnt B n) pc i) (n := x) (decide_eq_false (fun r => absurd r.2.2 (by omega)))
        refine nm_r w3 (hw (tot, (x - 1) &&& i) ⟨?_, w2, ?_⟩ w1)
        · show (x - 1) &&& i < i
          omega
        · show tot + fs_num (fs_rp (fs_cnt B n) pc i) (((x - 1) &&& i) + 1) = _
          omega
      · have f0 := fs_num_t (p := fs_rp (fs_cnt B n) pc i) (n := x) (decide_eq_true ⟨by omega, i2, q⟩)
        refine nm_r (nI_1 tot) (nm_r w3 (hw (tot + 1, (x - 1) &&& i) ⟨?_, w2, ?_⟩ w1))
        · show (x - 1) &&& i < i
          omega
        · show tot + 1 + fs_num (fs_rp (fs_cnt B n) pc i) (((x - 1) &&& i) + 1) = _
          omega
  · refine ⟨s1, s2, ?_⟩
    show base + fs_num (fs_rp (fs_cnt B n) pc i) (((i - 1) &&& i) + 1) = _
    rw [← gap i hi0 (Nat.le_refl i) (fs_sub_self i)]
theorem fs_rl_t {cn : Nat → Nat} {m pc i : Nat} (h : 1 ≤ i ∧ m ≤ cn i) : fs_rl cn m pc (i + 1) = fs_rl cn m pc i + fs_num (fs_rp cn pc i) i := by
  show fs_rl cn m pc i + (if 1 ≤ i ∧ m ≤ cn i then fs_num (fs_rp cn pc i) i else 0) = _
  rw [if_pos h]
theorem fs_rl_f {cn : Nat → Nat} {m pc i : Nat} (h : ¬ (1 ≤ i ∧ m ≤ cn i)) : fs_rl cn m pc (i + 1) = fs_rl cn m pc i := by
  show fs_rl cn m pc i + (if 1 ≤ i ∧ m ≤ cn i then fs_num (fs_rp cn pc i) i else 0) = _
  rw [if_neg h, Nat.add_zero]
theorem fs_qrules {post : Int32 → St2 → Prop} {f0 f1 f2 : Int32} {a1 a2 a3 a4 a5 a6 a7 a8 a9 a10 a11 a12 a13 : Nat → Int32} {n m pc : Nat} {B : Nat → Nat} (h : fs_Ob n B f0 f1 a1 a10) (h1 : 1 ≤ m) (h2 : m ≤ 20) (hpc : pc ≤ 100) (h32 : ∀ s, 32 ≤ s → s < 256 → fs_cnt B n s = 0)
    (H : ∀ f0 f1 f2 a1 a2 a3 a4 a5 a6 a7 a8 a9 a10 a11 a12 a13, fs_Bt n B f0 f1 a1 a10 → post (nI (fs_rl (fs_cnt B n) m pc 256)) (f0, f1, f2, a1, a2, a3, a4, a5, a6, a7, a8, a9, a10, a11, a12, a13)) : wpX_rules post (f0, f1, f2, a1, a2, a3, a4, a5, a6, a7, a8, a9, a10, a11, a12, a13) (nI m) (nI pc) := by
  unfold wpX_rules
  refine fs_bound h1 h2 ?_
  refine br_f (by decide) (br_f (nI_pos (by omega)) (pk_le pc 100 (fun _ => fs_bld h (fun f0 f1 f2 a1 a2 a3 a4 a5 a6 a7 a8 a9 a10 a11 a12 a13 g => ?_)) (fun z => absurd z (by omega))))
  refine pk_loop (σ := Unit) (fun k i _ => wX_rules_29 post (nI m) (nI pc) f0 f1 f2 a1 a2 a3 a4 a5 a6 a7 a8 a9 a10 a11 a12 a13 k (nI (fs_rl (fs_cnt B n) m pc i)) (nI i)) (fun i _ => 1 ≤ i) 256 1 () (by omega) (Nat.le_refl 1) ?_ ?_
  · intro k _ _
    exact pk_le 256 256 (fun _ => H f0 f1 f2 a1 a2 a3 a4 a5 a6 a7 a8 a9 a10 a11 a12 a13 g) (fun z => absurd z (by omega))
  · intro k i _ hi hI hw
    have hl := fs_cnt_le B n i
    have hn := g.1.1
    have e : a10 (nI i).toNatClampNeg = nI (fs_cnt B n i) := by rw [nI_clamp (by omega)]; exact g.2.2 i hi
    have t := hw () (by omega)
    refine pk_le 256 i (fun z => absurd z (by omega)) (fun _ => ⟨pk_in i 256 hi, pk_le m (fs_cnt B n i) (fun z => nm_e ?_) (fun z => ?_) rfl e⟩)
    · have hi32 : i < 32 := by
        rcases Nat.lt_or_ge i 32 with w | w
        · exact w
        · have := h32 i w hi; omega
      rw [fs_rl_t ⟨hI, z⟩] at t
      exact fs_r60 g hpc hI hi32 t
    · rw [fs_rl_f (fun q => absurd q.2 (by omega))] at t
      exact nm_r (nI_1 i) t
/-- companion -/
theorem fs_cm_t {cn : Nat → Nat} {s t : Nat} {b0 : Int32} (h : s.testBit t = false ∧ (fs_cm cn s b0 t).2 < nI (cn (s ||| 2 ^ t))) : fs_cm cn s b0 (t + 1) = (nI t, nI (cn (s ||| 2 ^ t))) := if_pos h
theorem fs_cm_f {cn : Nat → Nat} {s t : Nat} {b0 : Int32} (h : ¬ (s.testBit t = false ∧ (fs_cm cn s b0 t).2 < nI (cn (s ||| 2 ^ t)))) : fs_cm cn s b0 (t + 1) = fs_cm cn s b0 t := if_neg h
theorem fs_qcomp {post : Int32 → St2 → Prop} {f0 f1 f2 : Int32} {a1 a2 a3 a4 a5 a6 a7 a8 a9 a10 a11 a12 a13 : Nat → Int32} {n s : Nat} {B : Nat → Nat} (h : fs_Ob n B f0 f1 a1 a10) (h1 : 1 ≤ s) (h2 : s < 255)
    (H : ∀ f0 f1 f2 a1 a2 a3 a4 a5 a6 a7 a8 a9 a10 a11 a12 a13, fs_Bt n B f0 f1 a1 a10 → post (if fs_cnt B n s = 0 then -3 else (fs_cm (fs_cnt B n) s (-3) 8).1) (f0, f1, f2, a1, a2, a3, a4, a5, a6, a7, a8, a9, a10, a11, a12, a13)) : wpX_companion post (f0, f1, f2, a1, a2, a3, a4, a5, a6, a7, a8, a9, a10, a11, a12, a13) (nI s) := by
  refine pk_lt s 1 (fun z => absurd z (by omega)) (fun _ => pk_le s 255 (fun _ => fs_bld h (fun f0 f1 f2 a1 a2 a3 a4 a5 a6 a7 a8 a9 a10 a11 a12 a13 g => ⟨pk_in s 256 (by omega), ?_⟩)) (fun z => absurd z (by omega)))
  have hl := fs_cnt_le B n s
  have hn := g.1.1
  have H' := H f0 f1 f2 a1 a2 a3 a4 a5 a6 a7 a8 a9 a10 a11 a12 a13 g
  have e : a10 (nI s).toNatClampNeg = nI (fs_cnt B n s) := by rw [nI_clamp (by omega)]; exact g.2.2 s (by omega)
  refine pk_eq (fs_cnt B n s) 0 (fun z => ?_) (fun z => ?_) e
  · rw [if_pos z] at H'
    exact H'
  · rw [if_neg z] at H'
    refine pk_eq s 255 (fun z => absurd z (by omega)) (fun _ => ?_)
    refine pk_loop (σ := Unit) (fun k i _ => wX_companion_45 post (nI s) f0 f1 f2 a1 a2 a3 a4 a5 a6 a7 a8 a9 a10 a11 a12 a13 k (fs_cm (fs_cnt B n) s (-3) i).1 (fs_cm (fs_cnt B n) s (-3) i).2 (nI i)) (fun _ _ => True) 8 0 () (by omega) trivial ?_ ?_
    · intro k _ _
      exact pk_le 8 8 (fun _ => H') (fun z => absurd z (by omega))
    · intro k i _ hi _ hw
      have t := hw () trivial
      have hor := fs_or_lt (show s < 256 by omega) hi
      refine pk_le 8 i (fun z => absurd z (by omega)) (fun _ => fs_ib s i (by omega) hi (fun b => ?_) (fun b => ?_))
      · have e2 : nI s ||| ((1 : Int32) <<< (nI i &&& 31)) = nI (s ||| 2 ^ i) := fs_i2 s (by omega) i hi
        have e3 : a10 (nI s ||| ((1 : Int32) <<< (nI i &&& 31))).toNatClampNeg = nI (fs_cnt B n (s ||| 2 ^ i)) := by rw [e2, nI_clamp (by omega)]; exact g.2.2 _ hor
        refine ⟨pk_in _ 256 hor e2, br_c (fun w => ⟨pk_in _ 256 hor e2, ?_⟩) (fun w => ?_)⟩
        · rw [e3] at w
          rw [fs_cm_t ⟨b, w⟩] at t
          exact nm_r e3 (nm_r (nI_1 i) t)
        · rw [e3] at w
          rw [fs_cm_f (fun q => w q.2)] at t
          exact nm_r (nI_1 i) t
      · rw [fs_cm_f (fun q => by rw [b] at q; exact absurd q.1 (by decide))] at t
        exact nm_r (nI_1 i) t
theorem fs_qcomp0 {post : Int32 → St2 → Prop} {f0 f1 f2 : Int32} {a1 a2 a3 a4 a5 a6 a7 a8 a9 a10 a11 a12 a13 : Nat → Int32} (H : post (-1) (f0, f1, f2, a1, a2, a3, a4, a5, a6, a7, a8, a9, a10, a11, a12, a13)) : wpX_companion post (f0, f1, f2, a1, a2, a3, a4, a5, a6, a7, a8, a9, a10, a11, a12, a13) 0 := br_t (by decide) H
/-- closure of a set that nobody has -/
theorem fs_qclosure {post : Int32 → St2 → Prop} {f0 f1 f2 : Int32} {a1 a2 a3 a4 a5 a6 a7 a8 a9 a10 a11 a12 a13 : Nat → Int32} {n s : Nat} {B : Nat → Nat} (h : fs_Ob n B f0 f1 a1 a10) (hs : s < 256) (h0 : fs_cnt B n s = 0)
    (H : ∀ f0 f1 f2 a1 a2 a3 a4 a5 a6 a7 a8 a9 a10 a11 a12 a13, fs_Bt n B f0 f1 a1 a10 → post (-3) (f0, f1, f2, a1, a2, a3, a4, a5, a6, a7, a8, a9, a10, a11, a12, a13)) : wpX_closure post (f0, f1, f2, a1, a2, a3, a4, a5, a6, a7, a8, a9, a10, a11, a12, a13) (nI s) := by
  unfold wpX_closure
  refine fs_isSet hs ?_
  refine br_f (by decide) (fs_bld h (fun f0 f1 f2 a1 a2 a3 a4 a5 a6 a7 a8 a9 a10 a11 a12 a13 g => ⟨pk_in s 256 hs, br_t ?_ (H f0 f1 f2 a1 a2 a3 a4 a5 a6 a7 a8 a9 a10 a11 a12 a13 g)⟩))
  rw [nI_clamp (by omega), g.2.2 s hs, h0]
  rfl
/-- add -/
theorem fs_qadd {post : Int32 → St2 → Prop} {f0 f1 f2 : Int32} {a1 a2 a3 a4 a5 a6 a7 a8 a9 a10 a11 a12 a13 : Nat → Int32} {n : Nat} {B : Nat → Nat} (h : fs_Ob n B f0 f1 a1 a10) (hn : n < 20) (hb : B n < 256)
    (H : ∀ f0 f1 f2 a1 a2 a3 a4 a5 a6 a7 a8 a9 a10 a11 a12 a13, fs_Ob (n + 1) B f0 f1 a1 a10 → post (nI (n + 1)) (f0, f1, f2, a1, a2, a3, a4, a5, a6, a7, a8, a9, a10, a11, a12, a13)) : wpX_add post (f0, f1, f2, a1, a2, a3, a4, a5, a6, a7, a8, a9, a10, a11, a12, a13) (nI (B n)) := by
  have hs : fs_Bs n B f0 a1 := by
    rcases h with h | h
    · exact h.1
    · exact h.1
  obtain ⟨h1, h2, h3⟩ := hs
  subst h2
  refine pk_lt n 20 (fun _ => fs_isSet hb (br_f (by decide) ⟨pk_in n 20 hn, nm_r (show upd a1 (nI n).toNatClampNeg (nI (B n)).toInt16.toInt32 = upd a1 n (nI (B n)) by rw [nI_clamp (by omega), fs_i4 _ hb]) (nm_r (nI_1 n) (H _ _ _ _ _ _ _ _ _ _ _ _ _ _ _ _ (Or.inl ⟨⟨by omega, rfl, fun b hb' => ?_⟩, rfl⟩)))⟩)) (fun z => absurd z (by omega))
  by_cases e : b = n
  · rw [e, pk_us]; exact ⟨hb, rfl⟩
  · rw [pk_un e]; exact h3 b (by omega)
/-- drop -/
theorem fs_qdrop {post : Int32 → St2 → Prop} {f0 f1 f2 : Int32} {a1 a2 a3 a4 a5 a6 a7 a8 a9 a10 a11 a12 a13 : Nat → Int32} {n : Nat} {B : Nat → Nat} (h : fs_Ob (n + 1) B f0 f1 a1 a10)
    (H : ∀ f0 f1 f2 a1 a2 a3 a4 a5 a6 a7 a8 a9 a10 a11 a12 a13, fs_Ob n (fun j => B (j + 1)) f0 f1 a1 a10 → post (nI n) (f0, f1, f2, a1, a2, a3, a4, a5, a6, a7, a8, a9, a10, a11, a12, a13)) : wpX_drop post (f0, f1, f2, a1, a2, a3, a4, a5, a6, a7, a8, a9, a10, a11, a12, a13) := by
  have hs : fs_Bs (n + 1) B f0 a1 := by
    rcases h with h | h
    · exact h.1
    · exact h.1
  obtain ⟨h1, h2, h3⟩ := hs
  subst h2
  refine br_f (nI_ne0 (by omega) (by omega)) (nm_r (nI_pred n) ?_)
  refine pk_loop (fun k i s => wX_drop_22 post (nI n) f1 f2 k (nI i) s a2 a3 a4 a5 a6 a7 a8 a9 a10 a11 a12 a13) (fun i s => (∀ j, j < i → s j = nI (B (j + 1))) ∧ ∀ j, i ≤ j → j < n + 1 → s j = nI (B j)) n 0 a1 (by omega) ⟨fun j hj => absurd hj (by omega), fun j _ hj => (h3 j hj).2⟩ ?_ ?_
  · intro k s hI
    refine pk_le n n (fun _ => H _ _ _ _ _ _ _ _ _ _ _ _ _ _ _ _ (Or.inl ⟨⟨by omega, rfl, fun b hb => ⟨(h3 (b + 1) (by omega)).1, hI.1 b hb⟩⟩, rfl⟩)) (fun z => absurd z (by omega))
  · intro k i s hi hI hw
    have hb := (h3 (i + 1) (by omega)).1
    have e : upd s (nI i).toNatClampNeg (vp_nar .short (s (nI i + 1).toNatClampNeg)) = upd s i (nI (B (i + 1))) := by
      rw [nI_1, nI_clamp (by omega), nI_clamp (by omega), hI.2 (i + 1) (by omega) (by omega), fs_n16 hb]
    refine pk_le n i (fun z => absurd z (by omega)) (fun _ => ⟨pk_in (i + 1) 20 (by omega) (nI_1 i), pk_in i 20 (by omega), nm_r e (nm_r (nI_1 i) (hw _ ⟨fun j hj => ?_, fun j j1 j2 => ?_⟩))⟩)
    · by_cases c : j = i
      · rw [c, pk_us]
      · rw [pk_un c]; exact hI.1 j (by omega)
    · rw [pk_un (by omega)]; exact hI.2 j (by omega) j2
theorem fs_qdrop0 {post : Int32 → St2 → Prop} {f0 f1 f2 : Int32} {a1 a2 a3 a4 a5 a6 a7 a8 a9 a10 a11 a12 a13 : Nat → Int32} {B : Nat → Nat} (h : fs_Ob 0 B f0 f1 a1 a10) (H : post (-3) (f0, f1, f2, a1, a2, a3, a4, a5, a6, a7, a8, a9, a10, a11, a12, a13)) : wpX_drop post (f0, f1, f2, a1, a2, a3, a4, a5, a6, a7, a8, a9, a10, a11, a12, a13) := by
  have hs : fs_Bs 0 B f0 a1 := by
    rcases h with h | h
    · exact h.1
    · exact h.1
  exact br_t hs.2.1 H
end
section
/-! the law's own methods -/
def fs_bk (w : Int32) (k : Nat) : Nat := ((w >>> ((5 * nI k) &&& 31)) &&& 31).toNatClampNeg
theorem fs_bk_eq (w : Int32) (k : Nat) : (w >>> ((5 * nI k) &&& 31)) &&& 31 = nI (fs_bk w k) ∧ fs_bk w k < 32 := by
  obtain ⟨j, hj, e⟩ := pk_andE (w >>> ((5 * nI k) &&& 31)) (m := 31) 5 (by decide)
  have e2 : fs_bk w k = j := by
    unfold fs_bk
    rw [e, nI_clamp (by omega)]
  rw [e2, e]
  exact ⟨rfl, hj⟩
theorem fs_lbasket {post : Int32 → Prop} (w : Int32) (k : Nat) (H : post (nI (fs_bk w k))) : wpL_basket post () w (nI k) := by
  unfold wpL_basket
  rw [(fs_bk_eq w k).1]
  exact H
theorem fs_isub0 : ∀ s, s < 32 → ∀ b, b < 32 → decide ((nI s &&& (nI b ^^^ (-1))) = 0) = fs_sub s b := by decide +kernel
theorem fs_isub {x y : Int32} {A B : Prop} (s b : Nat) (hs : s < 32) (hb : b < 32) (f : fs_sub s b = true → A) (g : fs_sub s b = false → B) (hx : x = nI s := by rfl) (hy : y = nI b := by rfl) :
    ((x &&& (y ^^^ (-1))) = 0 → A) ∧ (¬ (x &&& (y ^^^ (-1))) = 0 → B) := by
  subst hx hy
  have e := fs_isub0 s hs b hb
  cases h : fs_sub s b
  · rw [h] at e
    exact br_f (of_decide_eq_false e) (g h)
  · rw [h] at e
    exact br_t (of_decide_eq_true e) (f h)
theorem fs_lcount {post : Int32 → Prop} {w : Int32} {s : Nat} (hs : s < 32) (H : post (nI (fs_cnt (fs_bk w) 5 s))) : wpL_count post () w (nI s) := by
  refine pk_loop (σ := Unit) (fun k i _ => wL_count_4 post w (nI s) k (nI (fs_num (fun j => fs_sub s (fs_bk w j)) i)) (nI i)) (fun _ _ => True) 5 0 () (by omega) trivial ?_ ?_
  · intro k _ _
    exact pk_le 5 5 (fun _ => H) (fun z => absurd z (by omega))
  · intro k i _ hi _ hw
    have t := hw () trivial
    refine pk_le 5 i (fun z => absurd z (by omega)) (fun _ => fs_lbasket w i ?_)
    refine fs_isub s (fs_bk w i) hs (fs_bk_eq w i).2 (fun c => ?_) (fun c => ?_)
    · rw [fs_num_t (p := fun j => fs_sub s (fs_bk w j)) c] at t
      exact nm_r (nI_1 _) (nm_r (nI_1 i) t)
    · rw [fs_num_f (p := fun j => fs_sub s (fs_bk w j)) c] at t
      exact nm_r (nI_1 i) t
/-- no larger set has as many as bd -/
noncomputable def fs_top (cn : Nat → Nat) (s bd : Nat) : Bool := fs_dec (∀ e, 1 ≤ e → e < 32 → e ≠ s → fs_sub s e = true → cn e < bd)
theorem fs_ltop {post : Int32 → Prop} {w : Int32} {s bd : Nat} (hs : s < 32) (hbd : bd ≤ 20) (H : post (nI (fs_top (fs_cnt (fs_bk w) 5) s bd).toNat)) : wpL_top post () w (nI s) (nI bd) := by
  refine pk_loop (σ := Unit) (fun k i _ => wL_top_2 post w (nI s) (nI bd) k (nI i)) (fun i _ => 1 ≤ i ∧ ∀ e, e < i → 1 ≤ e → e ≠ s → fs_sub s e = true → fs_cnt (fs_bk w) 5 e < bd) 32 1 () (by omega) ⟨Nat.le_refl 1, fun e h1 h2 => absurd h1 (by omega)⟩ ?_ ?_
  · intro k _ hI
    refine pk_le 32 32 (fun _ => ?_) (fun z => absurd z (by omega))
    have e1 : fs_top (fs_cnt (fs_bk w) 5) s bd = true := fs_dec_t (fun e h1 h2 => hI.2 e h2 h1)
    rw [e1] at H
    exact H
  · intro k i _ hi hI hw
    obtain ⟨i1, hI⟩ := hI
    have cl := fs_cnt_le (fs_bk w) 5 i
    refine pk_le 32 i (fun z => absurd z (by omega)) (fun _ => pk_eq i s (fun z => nm_r (nI_1 i) (hw () ⟨by omega, lt_s hI (fun _ n => absurd z n)⟩)) (fun z => ?_))
    refine fs_isub s i hs hi (fun c => fs_lcount hi ?_) (fun c => nm_r (nI_1 i) (hw () ⟨by omega, lt_s hI (fun _ _ d => ?_)⟩))
    · refine pk_lt (fs_cnt (fs_bk w) 5 i) bd (fun q => nm_r (nI_1 i) (hw () ⟨by omega, lt_s hI (fun _ _ _ => q)⟩)) (fun q => ?_)
      have e1 : fs_top (fs_cnt (fs_bk w) 5) s bd = false := fs_dec_f (fun h => absurd (h i i1 hi z c) (by omega))
      rw [e1] at H
      exact H
    · rw [c] at d
      exact absurd d (by decide)
theorem fs_size5 {s : Nat} (hs : s < 32) : fs_size s = fs_num (fun t => s.testBit t) 5 :=
  fs_num_stop (by omega) (fun k h1 h2 => Nat.testBit_lt_two_pow (Nat.lt_of_lt_of_le hs (fs_pw (a := 5) h1)))
theorem fs_lones {post : Int32 → Prop} {s : Nat} (hs : s < 32) (H : post (nI (fs_size s))) : wpL_ones post () (nI s) := by
  rw [fs_size5 hs] at H
  exact pk_loop (σ := Unit) (fun k i _ => wL_ones_4 post (nI s) k (nI (fs_num (fun t => s.testBit t) i)) (nI i)) (fun _ _ => True) 5 0 () (by omega) trivial
    (fun k _ _ => pk_le 5 5 (fun _ => H) (fun z => absurd z (by omega)))
    (fun k i _ hi _ hw => pk_le 5 i (fun z => absurd z (by omega)) (fun _ => nm_r (by rw [fs_i1 s (by omega) i (by omega), nI_add]; rfl) (nm_r (nI_1 i) (hw () trivial))))
/-! the plain law -/
/-- the baskets hold the things 0 to 4 alone -/
def fs_B5 (B : Nat → Nat) (n : Nat) : Prop := ∀ b, b < n → B b < 32
theorem fs_p1 {B : Nat → Nat} {n s : Nat} (h : fs_B5 B n) (hs : 32 ≤ s) : fs_cnt B n s = 0 := by
  refine fs_num_zero (fun k hk => ?_)
  cases e : fs_sub s (B k)
  · rfl
  · exfalso
    have e2 : s &&& B k = s := of_decide_eq_true e
    have := Nat.and_le_right (n := s) (m := B k)
    have := h k hk
    omega
theorem fs_sub_up (s t : Nat) : fs_sub s (s ||| 2 ^ t) = true := fs_sub_iff.mpr (fun i hi => by rw [fs_bit_or, hi]; rfl)
theorem fs_ne_up {s t : Nat} (h : s.testBit t = false) : s ||| 2 ^ t ≠ s := by
  intro e
  have : (s ||| 2 ^ t).testBit t = true := by rw [fs_bit_or, decide_eq_true rfl, Bool.or_true]
  rw [e, h] at this
  exact absurd this (by decide)
theorem fs_more {s e : Nat} (he : e < 256) (hn : e ≠ s) (h : fs_sub s e = true) : ∃ t, t < 8 ∧ s.testBit t = false ∧ fs_sub (s ||| 2 ^ t) e = true := by
  refine Classical.byContradiction (fun hno => hn ?_)
  apply Nat.eq_of_testBit_eq
  intro i
  have h1 := fs_sub_iff.mp h i
  cases ei : s.testBit i
  · cases ee : e.testBit i
    · rfl
    · exfalso
      refine hno ⟨i, ?_, ei, by rw [fs_sub_or, h, ee]; rfl⟩
      rcases Nat.lt_or_ge i 8 with z | z
      · exact z
      · rw [fs_hi he z] at ee
        exact absurd ee (by decide)
  · exact h1 ei
theorem fs_p2 {B : Nat → Nat} {n m s : Nat} (hB : fs_B5 B n) (hm : 1 ≤ m) (h1 : 1 ≤ s) (hs : s < 32) (hc : m ≤ fs_cnt B n s) : fs_top (fs_cnt B n) s (fs_cnt B n s) = fs_cl (fs_cnt B n) m s := by
  unfold fs_top fs_cl
  congr 1
  apply propext
  constructor
  · intro h
    refine ⟨h1, hc, fun t ht hb e => ?_⟩
    have hlt : s ||| 2 ^ t < 32 := by
      rcases Nat.lt_or_ge (s ||| 2 ^ t) 32 with z | z
      · exact z
      · have := fs_p1 hB z
        omega
    have hge : s ≤ s ||| 2 ^ t := Nat.left_le_or
    have := h (s ||| 2 ^ t) (by omega) hlt (fs_ne_up hb) (fs_sub_up s t)
    omega
  · rintro ⟨_, _, h⟩ e e1 e2 e3 e4
    obtain ⟨t, t1, t2, t3⟩ := fs_more (by omega) e3 e4
    have a1 := fs_cnt_mono (B := B) (n := n) t3
    have a2 := fs_cnt_mono (B := B) (n := n) (fs_sub_up s t)
    have a3 := h t t1 t2
    omega
theorem fs_p3 {B : Nat → Nat} {n m s : Nat} (hB : fs_B5 B n) (hm : 1 ≤ m) (h1 : 1 ≤ s) (hs : s < 32) (hc : m ≤ fs_cnt B n s) : fs_top (fs_cnt B n) s m = fs_lg (fs_cnt B n) m s := by
  unfold fs_top fs_lg
  congr 1
  apply propext
  constructor
  · intro h
    refine ⟨h1, hc, fun t ht hb => ?_⟩
    rcases Nat.lt_or_ge (s ||| 2 ^ t) 32 with z | z
    · have hge : s ≤ s ||| 2 ^ t := Nat.left_le_or
      exact h (s ||| 2 ^ t) (by omega) z (fs_ne_up hb) (fs_sub_up s t)
    · have := fs_p1 hB z
      omega
  · rintro ⟨_, _, h⟩ e e1 e2 e3 e4
    obtain ⟨t, t1, t2, t3⟩ := fs_more (by omega) e3 e4
    have a1 := fs_cnt_mono (B := B) (n := n) t3
    have a3 := h t t1 t2
    omega
/-- nothing behind 31 -/
theorem fs_end_fq {B : Nat → Nat} {n m : Nat} (hB : fs_B5 B n) (hm : 1 ≤ m) : fs_num (fs_fq (fs_cnt B n) m) 256 = fs_num (fs_fq (fs_cnt B n) m) 32 :=
  fs_num_stop (by omega) (fun k h1 h2 => decide_eq_false (fun q => by have := fs_p1 hB h1; omega))
theorem fs_end_cl {B : Nat → Nat} {n m : Nat} (hB : fs_B5 B n) (hm : 1 ≤ m) : fs_num (fs_cl (fs_cnt B n) m) 256 = fs_num (fs_cl (fs_cnt B n) m) 32 :=
  fs_num_stop (by omega) (fun k h1 h2 => fs_dec_f (fun q => by have := fs_p1 hB h1; have := q.2.1; omega))
theorem fs_end_lg {B : Nat → Nat} {n m : Nat} (hB : fs_B5 B n) (hm : 1 ≤ m) : fs_num (fs_lg (fs_cnt B n) m) 256 = fs_num (fs_lg (fs_cnt B n) m) 32 :=
  fs_num_stop (by omega) (fun k h1 h2 => fs_dec_f (fun q => by have := fs_p1 hB h1; have := q.2.1; omega))
theorem fs_end_wd {B : Nat → Nat} {n m : Nat} (hB : fs_B5 B n) (hm : 1 ≤ m) : fs_wd (fs_cnt B n) m 256 = fs_wd (fs_cnt B n) m 32 := by
  have : ∀ k, fs_wd (fs_cnt B n) m (32 + k) = fs_wd (fs_cnt B n) m 32 := by
    intro k
    induction k with
    | zero => rfl
    | succ k ih =>
      show fs_wd (fs_cnt B n) m (32 + k + 1) = _
      rw [fs_wd_f (fun q => ?_), ih]
      have := fs_p1 hB (s := 32 + k) (by omega)
      omega
  exact this 224
theorem fs_end_rl {B : Nat → Nat} {n m pc : Nat} (hB : fs_B5 B n) (hm : 1 ≤ m) : fs_rl (fs_cnt B n) m pc 256 = fs_rl (fs_cnt B n) m pc 32 := by
  have : ∀ k, fs_rl (fs_cnt B n) m pc (32 + k) = fs_rl (fs_cnt B n) m pc 32 := by
    intro k
    induction k with
    | zero => rfl
    | succ k ih =>
      show fs_rl (fs_cnt B n) m pc (32 + k + 1) = _
      rw [fs_rl_f (fun q => ?_), ih]
      have := fs_p1 hB (s := 32 + k) (by omega)
      omega
  exact this 224
theorem fs_no_fq {B : Nat → Nat} {n m k : Nat} (hm : n < m) : fs_num (fs_fq (fs_cnt B n) m) k = 0 :=
  fs_num_zero (fun s _ => decide_eq_false (fun q => by have := fs_cnt_le B n s; omega))
theorem fs_no_wd {B : Nat → Nat} {n m k : Nat} (hm : n < m) : fs_wd (fs_cnt B n) m k = 0 := by
  induction k with
  | zero => rfl
  | succ k ih =>
    rw [fs_wd_f (fun q => ?_), ih]
    have := fs_cnt_le B n k
    omega
/-- where the search for a companion began is forgotten once a thing is wanting -/
theorem fs_cm_eq (cn : Nat → Nat) (s : Nat) (b c : Int32) (t : Nat) (hcn : ∀ x, cn x ≤ 20) : fs_cm cn s b t = fs_cm cn s c t ∨ ((fs_cm cn s b t).2 = -1 ∧ (fs_cm cn s c t).2 = -1 ∧ ∀ u, u < t → s.testBit u = true) := by
  induction t with
  | zero => exact Or.inr ⟨rfl, rfl, fun u hu => absurd hu (by omega)⟩
  | succ t ih =>
    rcases ih with e | ⟨e1, e2, e3⟩
    · left
      show (if s.testBit t = false ∧ (fs_cm cn s b t).2 < nI (cn (s ||| 2 ^ t)) then (nI t, nI (cn (s ||| 2 ^ t))) else fs_cm cn s b t) = (if s.testBit t = false ∧ (fs_cm cn s c t).2 < nI (cn (s ||| 2 ^ t)) then (nI t, nI (cn (s ||| 2 ^ t))) else fs_cm cn s c t)
      rw [e]
    · cases h : s.testBit t
      · left
        have hn : ∀ v, v ≤ 20 → (-1 : Int32) < nI v := by
          intro v hv
          have : ∀ v, v < 21 → (-1 : Int32) < nI v := by decide +kernel
          exact this v (by omega)
        have := hn _ (hcn (s ||| 2 ^ t))
        rw [fs_cm_t ⟨h, by rw [e1]; exact this⟩, fs_cm_t ⟨h, by rw [e2]; exact this⟩]
      · right
        rw [fs_cm_f (fun q => by rw [h] at q; exact absurd q.1 (by decide)), fs_cm_f (fun q => by rw [h] at q; exact absurd q.1 (by decide))]
        exact ⟨e1, e2, lt_s e3 h⟩
theorem fs_cm_end {cn : Nat → Nat} {s : Nat} (b c : Int32) (hs : s < 32) (hcn : ∀ x, cn x ≤ 20) : fs_cm cn s b 8 = fs_cm cn s c 8 := by
  rcases fs_cm_eq cn s b c 8 hcn with e | ⟨_, _, e⟩
  · exact e
  · have := e 5 (by omega)
    rw [Nat.testBit_lt_two_pow hs] at this
    exact absurd this (by decide)
end
section
/-! the law's loops -/
theorem fs_b5 (w : Int32) : fs_B5 (fs_bk w) 5 := fun b _ => (fs_bk_eq w b).2
theorem fs_cn5 (w : Int32) (x : Nat) : fs_cnt (fs_bk w) 5 x ≤ 5 := fs_cnt_le _ _ _
theorem fs_v212 {post : Int32 → St0 → Prop} {mc ms : Nat} {J : Int32 → Int32 → Int32 → Int32 → Int32 → Int32 → Int32 → Int32 → Int32 → (Nat → Int32) → (Nat → Int32) → (Nat → Int32) → (Nat → Int32) → (Nat → Int32) → (Nat → Int32) → (Nat → Int32) → (Nat → Int32) → (Nat → Int32) → (Nat → Int32) → (Nat → Int32) → (Nat → Int32) → (Nat → Int32) → Prop} {w x3 x4 x7 x8 x9 x10 : Int32} {kc ks : Nat} {f0 f1 f2 : Int32} {a1 a2 a3 a4 a5 a6 a7 a8 a9 a10 a11 a12 a13 : Nat → Int32} {s pc base : Nat} (h1 : 1 ≤ s) (hs : s < 32) (hpc : pc ≤ 100)
    (H : J x7 x8 x9 x10 (nI (base + fs_num (fs_rp (fs_cnt (fs_bk w) 5) pc s) s)) (nI (s + 1)) f0 f1 f2 a1 a2 a3 a4 a5 a6 a7 a8 a9 a10 a11 a12 a13) :
    ∃ f, wL_lawOf_212 post mc ms J w x3 x4 (nI pc) x7 x8 x9 x10 (nI s) (nI (fs_cnt (fs_bk w) 5 s)) kc ks f0 f1 f2 a1 a2 a3 a4 a5 a6 a7 a8 a9 a10 a11 a12 a13 f (nI base) 1 := by
  have e0 : base + fs_num (fs_rp (fs_cnt (fs_bk w) 5) pc s) 1 = base := by
    rw [fs_num_f (decide_eq_false (fun q => absurd q.1 (by omega)))]
    rfl
  suffices L : ∃ f, wL_lawOf_212 post mc ms J w x3 x4 (nI pc) x7 x8 x9 x10 (nI s) (nI (fs_cnt (fs_bk w) 5 s)) kc ks f0 f1 f2 a1 a2 a3 a4 a5 a6 a7 a8 a9 a10 a11 a12 a13 f (nI (base + fs_num (fs_rp (fs_cnt (fs_bk w) 5) pc s) 1)) (nI 1) by
    rw [e0] at L
    exact L
  refine pk_loop (σ := Unit) (fun f q _ => wL_lawOf_212 post mc ms J w x3 x4 (nI pc) x7 x8 x9 x10 (nI s) (nI (fs_cnt (fs_bk w) 5 s)) kc ks f0 f1 f2 a1 a2 a3 a4 a5 a6 a7 a8 a9 a10 a11 a12 a13 f (nI (base + fs_num (fs_rp (fs_cnt (fs_bk w) 5) pc s) q)) (nI q)) (fun q _ => 1 ≤ q) s 1 () h1 (Nat.le_refl 1) ?_ ?_
  · intro f _ _
    exact pk_le s s (fun _ => nm_r (nI_1 s) H) (fun z => absurd z (by omega))
  · intro f q _ hq hI hw
    have t := hw () (by omega)
    have c1 := fs_cn5 w s
    have c2 := fs_cn5 w q
    have c3 : pc * fs_cnt (fs_bk w) 5 q ≤ 100 * 5 := Nat.mul_le_mul hpc c2
    refine pk_le s q (fun z => absurd z (by omega)) (fun _ => fs_isub q s (by omega) hs (fun c => fs_lcount (by omega) ?_) (fun c => ?_))
    · refine pk_lt (100 * fs_cnt (fs_bk w) 5 s) (pc * fs_cnt (fs_bk w) 5 q) (fun z => ?_) (fun z => ?_) (pk_mul 100 _) (pk_mul _ _)
      · rw [fs_num_f (decide_eq_false (fun r => absurd r.2.2 (by omega)))] at t
        exact nm_r (nI_1 q) t
      · rw [fs_num_t (decide_eq_true ⟨hI, c, z⟩)] at t
        exact nm_r (nI_1 _) (nm_r (nI_1 q) t)
    · rw [fs_num_f (decide_eq_false (fun r => by rw [c] at r; exact absurd r.2.1 (by decide)))] at t
      exact nm_r (nI_1 q) t
theorem fs_v192 {post : Int32 → St0 → Prop} {mc ms : Nat} {J : Int32 → Int32 → Int32 → Int32 → Int32 → Int32 → Int32 → Int32 → Int32 → (Nat → Int32) → (Nat → Int32) → (Nat → Int32) → (Nat → Int32) → (Nat → Int32) → (Nat → Int32) → (Nat → Int32) → (Nat → Int32) → (Nat → Int32) → (Nat → Int32) → (Nat → Int32) → (Nat → Int32) → (Nat → Int32) → Prop} {w x3 x4 x7 x8 x9 : Int32} {kc ks : Nat} {f0 f1 f2 : Int32} {a1 a2 a3 a4 a5 a6 a7 a8 a9 a10 a11 a12 a13 : Nat → Int32} {s pc m : Nat} (h1 : 1 ≤ s) (hs : s < 32) (hpc : pc ≤ 100) (hc : m ≤ fs_cnt (fs_bk w) 5 s)
    (H : J x7 x8 x9 (nI (fs_wd (fs_cnt (fs_bk w) 5) m (s + 1))) (nI (fs_rl (fs_cnt (fs_bk w) 5) m pc (s + 1))) (nI (s + 1)) f0 f1 f2 a1 a2 a3 a4 a5 a6 a7 a8 a9 a10 a11 a12 a13) :
    wL_lawOf_192 post mc ms J w x3 x4 (nI pc) x7 x8 x9 (nI (fs_wd (fs_cnt (fs_bk w) 5) m s)) (nI (fs_rl (fs_cnt (fs_bk w) 5) m pc s)) (nI s) (nI (fs_cnt (fs_bk w) 5 s)) kc ks f0 f1 f2 a1 a2 a3 a4 a5 a6 a7 a8 a9 a10 a11 a12 a13 := by
  have hs8 := fs_size_le s
  have hw8 := fs_wd_le (fs_cnt (fs_bk w) 5) m s
  rw [fs_rl_t ⟨h1, hc⟩] at H
  unfold wL_lawOf_192
  refine fs_lones hs ?_
  refine pk_le (fs_size s) (fs_wd (fs_cnt (fs_bk w) 5) m s) (fun z => ?_) (fun z => fs_lones hs ?_)
  · rw [fs_wd_f (fun q => absurd q.2.2 (by omega))] at H
    exact fs_v212 h1 hs hpc H
  · rw [fs_wd_t ⟨h1, hc, z⟩] at H
    exact fs_v212 h1 hs hpc H
theorem fs_v178 {post : Int32 → St0 → Prop} {mc ms : Nat} {J : Int32 → Int32 → Int32 → Int32 → Int32 → Int32 → Int32 → Int32 → Int32 → (Nat → Int32) → (Nat → Int32) → (Nat → Int32) → (Nat → Int32) → (Nat → Int32) → (Nat → Int32) → (Nat → Int32) → (Nat → Int32) → (Nat → Int32) → (Nat → Int32) → (Nat → Int32) → (Nat → Int32) → (Nat → Int32) → Prop} {w x3 x7 x8 : Int32} {kc ks : Nat} {f0 f1 f2 : Int32} {a1 a2 a3 a4 a5 a6 a7 a8 a9 a10 a11 a12 a13 : Nat → Int32} {s pc m : Nat} (h1 : 1 ≤ s) (hs : s < 32) (hpc : pc ≤ 100) (hm : 1 ≤ m) (hc : m ≤ fs_cnt (fs_bk w) 5 s)
    (H : J x7 x8 (nI (fs_num (fs_lg (fs_cnt (fs_bk w) 5) m) (s + 1))) (nI (fs_wd (fs_cnt (fs_bk w) 5) m (s + 1))) (nI (fs_rl (fs_cnt (fs_bk w) 5) m pc (s + 1))) (nI (s + 1)) f0 f1 f2 a1 a2 a3 a4 a5 a6 a7 a8 a9 a10 a11 a12 a13) :
    wL_lawOf_178 post mc ms J w x3 (nI m) (nI pc) x7 x8 (nI (fs_num (fs_lg (fs_cnt (fs_bk w) 5) m) s)) (nI (fs_wd (fs_cnt (fs_bk w) 5) m s)) (nI (fs_rl (fs_cnt (fs_bk w) 5) m pc s)) (nI s) (nI (fs_cnt (fs_bk w) 5 s)) kc ks f0 f1 f2 a1 a2 a3 a4 a5 a6 a7 a8 a9 a10 a11 a12 a13 := by
  have c1 := fs_cn5 w s
  unfold wL_lawOf_178
  refine fs_ltop hs (by omega) ?_
  rw [fs_p3 (fs_b5 w) hm h1 hs hc]
  cases c : fs_lg (fs_cnt (fs_bk w) 5) m s
  · rw [fs_num_f c] at H
    exact br_t rfl (fs_v192 h1 hs hpc hc H)
  · rw [fs_num_t c] at H
    exact br_f (by decide) (nm_r (nI_1 _) (fs_v192 h1 hs hpc hc H))
theorem fs_v170 {post : Int32 → St0 → Prop} {mc ms : Nat} {J : Int32 → Int32 → Int32 → Int32 → Int32 → Int32 → Int32 → Int32 → Int32 → (Nat → Int32) → (Nat → Int32) → (Nat → Int32) → (Nat → Int32) → (Nat → Int32) → (Nat → Int32) → (Nat → Int32) → (Nat → Int32) → (Nat → Int32) → (Nat → Int32) → (Nat → Int32) → (Nat → Int32) → (Nat → Int32) → Prop} {w x3 x7 x14 : Int32} {kc ks : Nat} {f0 f1 f2 : Int32} {a1 a2 a3 a4 a5 a6 a7 a8 a9 a10 a11 a12 a13 : Nat → Int32} {s pc m : Nat} (h1 : 1 ≤ s) (hs : s < 32) (hpc : pc ≤ 100) (hm : 1 ≤ m) (hc : m ≤ fs_cnt (fs_bk w) 5 s)
    (hx : x14 = nI (fs_cl (fs_cnt (fs_bk w) 5) m s).toNat)
    (H : J x7 (nI (fs_num (fs_cl (fs_cnt (fs_bk w) 5) m) (s + 1))) (nI (fs_num (fs_lg (fs_cnt (fs_bk w) 5) m) (s + 1))) (nI (fs_wd (fs_cnt (fs_bk w) 5) m (s + 1))) (nI (fs_rl (fs_cnt (fs_bk w) 5) m pc (s + 1))) (nI (s + 1)) f0 f1 f2 a1 a2 a3 a4 a5 a6 a7 a8 a9 a10 a11 a12 a13) :
    wL_lawOf_170 post mc ms J w x3 (nI m) (nI pc) x7 (nI (fs_num (fs_cl (fs_cnt (fs_bk w) 5) m) s)) (nI (fs_num (fs_lg (fs_cnt (fs_bk w) 5) m) s)) (nI (fs_wd (fs_cnt (fs_bk w) 5) m s)) (nI (fs_rl (fs_cnt (fs_bk w) 5) m pc s)) (nI s) (nI (fs_cnt (fs_bk w) 5 s)) x14 kc ks f0 f1 f2 a1 a2 a3 a4 a5 a6 a7 a8 a9 a10 a11 a12 a13 := by
  subst hx
  unfold wL_lawOf_170
  cases c : fs_cl (fs_cnt (fs_bk w) 5) m s
  · rw [fs_num_f c] at H
    exact br_t rfl (fs_v178 h1 hs hpc hm hc H)
  · rw [fs_num_t c] at H
    exact br_f (by decide) (nm_r (nI_1 _) (fs_v178 h1 hs hpc hm hc H))
theorem fs_i32 : ∀ s, s < 32 → nI s ||| 32 = nI (s ||| 32) := by decide +kernel
theorem fs_i32b : ∀ s, s < 32 → 32 ≤ s ||| 32 ∧ s ||| 32 < 256 := by decide +kernel
theorem fs_qcountx {post : Int32 → St2 → Prop} {x : Int32} {f0 f1 f2 : Int32} {a1 a2 a3 a4 a5 a6 a7 a8 a9 a10 a11 a12 a13 : Nat → Int32} {n s : Nat} {B : Nat → Nat} (h : fs_Ob n B f0 f1 a1 a10) (hx : x = nI s) (hs : s < 256)
    (H : ∀ f0 f1 f2 a1 a2 a3 a4 a5 a6 a7 a8 a9 a10 a11 a12 a13, fs_Bt n B f0 f1 a1 a10 → post (nI (fs_cnt B n s)) (f0, f1, f2, a1, a2, a3, a4, a5, a6, a7, a8, a9, a10, a11, a12, a13)) : wpX_count post (f0, f1, f2, a1, a2, a3, a4, a5, a6, a7, a8, a9, a10, a11, a12, a13) x := by
  subst hx
  exact fs_qcount h hs H
theorem fs_v87 {post : Int32 → St0 → Prop} {mc ms : Nat} {w x3 : Int32} {kc ks : Nat} {m pc s0 : Nat} (hm : 1 ≤ m) (hm5 : m ≤ 20) (hpc : pc ≤ 100) (h3 : 1 + ((x3 &&& 255) - (x3 &&& 255) / 31 * 31) = nI s0)
    (H : ∀ f0 f1 f2 a1 a2 a3 a4 a5 a6 a7 a8 a9 a10 a11 a12 a13, fs_Ob 5 (fs_bk w) f0 f1 a1 a10 → ∃ f, wL_lawOf_372 post mc ms w (nI s0) kc ks f0 f1 f2 a1 a2 a3 a4 a5 a6 a7 a8 a9 a10 a11 a12 a13 f (-1) (-1) 0) :
    ∀ k s, s + k = 32 → 1 ≤ s → ∀ f0 f1 f2 a1 a2 a3 a4 a5 a6 a7 a8 a9 a10 a11 a12 a13, fs_Ob 5 (fs_bk w) f0 f1 a1 a10 →
      wL_lawOf_87 post mc ms w x3 (nI m) (nI pc) kc ks (k + 1) (nI (fs_num (fs_fq (fs_cnt (fs_bk w) 5) m) s)) (nI (fs_num (fs_cl (fs_cnt (fs_bk w) 5) m) s)) (nI (fs_num (fs_lg (fs_cnt (fs_bk w) 5) m) s)) (nI (fs_wd (fs_cnt (fs_bk w) 5) m s)) (nI (fs_rl (fs_cnt (fs_bk w) 5) m pc s)) (nI s) f0 f1 f2 a1 a2 a3 a4 a5 a6 a7 a8 a9 a10 a11 a12 a13 := by
  have hB := fs_b5 w
  intro k
  induction k with
  | zero =>
    intro s hsk h1 f0 f1 f2 a1 a2 a3 a4 a5 a6 a7 a8 a9 a10 a11 a12 a13 h
    have es : s = 32 := by omega
    subst es
    refine pk_le 32 32 (fun _ => ?_) (fun z => absurd z (by omega))
    refine fs_qfreq h hm hm5 ?_
    intro f0 f1 f2 a1 a2 a3 a4 a5 a6 a7 a8 a9 a10 a11 a12 a13 g
    refine br_t (congrArg nI (fs_end_fq hB hm)) ?_
    refine fs_qclosed (Or.inr g) hm hm5 ?_
    intro f0 f1 f2 a1 a2 a3 a4 a5 a6 a7 a8 a9 a10 a11 a12 a13 g
    refine br_t (congrArg nI (fs_end_cl hB hm)) ?_
    refine fs_qlargest (Or.inr g) hm hm5 ?_
    intro f0 f1 f2 a1 a2 a3 a4 a5 a6 a7 a8 a9 a10 a11 a12 a13 g
    refine br_t (congrArg nI (fs_end_lg hB hm)) ?_
    refine fs_qwidest (Or.inr g) hm hm5 ?_
    intro f0 f1 f2 a1 a2 a3 a4 a5 a6 a7 a8 a9 a10 a11 a12 a13 g
    refine br_t (congrArg nI (fs_end_wd hB hm)) ?_
    refine fs_qrules (Or.inr g) hm hm5 hpc (fun t ht _ => fs_p1 hB ht) ?_
    intro f0 f1 f2 a1 a2 a3 a4 a5 a6 a7 a8 a9 a10 a11 a12 a13 g
    refine br_t (congrArg nI (fs_end_rl hB hm)) ?_
    refine fs_qcnone (Or.inr g) hm hm5 (fs_end_cl hB hm) ?_
    intro f0 f1 f2 a1 a2 a3 a4 a5 a6 a7 a8 a9 a10 a11 a12 a13 g
    refine br_t rfl ?_
    refine fs_qfreq (m := 6) (Or.inr g) (by omega) (by omega) ?_
    intro f0 f1 f2 a1 a2 a3 a4 a5 a6 a7 a8 a9 a10 a11 a12 a13 g
    refine br_t (congrArg nI (fs_no_fq (by omega))) ⟨by decide, nm_r h3 ?_⟩
    exact H f0 f1 f2 a1 a2 a3 a4 a5 a6 a7 a8 a9 a10 a11 a12 a13 (Or.inr g)
  | succ k ih =>
    intro s hsk h1 f0 f1 f2 a1 a2 a3 a4 a5 a6 a7 a8 a9 a10 a11 a12 a13 h
    have hs : s < 32 := by omega
    have c5 := fs_cn5 w s
    refine pk_le 32 s (fun z => absurd z (by omega)) (fun _ => ?_)
    refine fs_lcount hs ?_
    refine fs_qcount h (by omega) ?_
    intro f0 f1 f2 a1 a2 a3 a4 a5 a6 a7 a8 a9 a10 a11 a12 a13 g
    refine br_t rfl ?_
    refine fs_qcountx (Or.inr g) (fs_i32 s hs) (fs_i32b s hs).2 ?_
    intro f0 f1 f2 a1 a2 a3 a4 a5 a6 a7 a8 a9 a10 a11 a12 a13 g
    refine br_t (congrArg nI (fs_p1 hB (fs_i32b s hs).1)) ?_
    refine pk_lt (fs_cnt (fs_bk w) 5 s) m (fun z => ?_) (fun z => ?_)
    · have t := ih (s + 1) (by omega) (by omega) f0 f1 f2 a1 a2 a3 a4 a5 a6 a7 a8 a9 a10 a11 a12 a13 (Or.inr g)
      rw [fs_num_f (p := fs_fq (fs_cnt (fs_bk w) 5) m) (decide_eq_false (fun q => absurd q.2 (by omega))), fs_num_f (p := fs_cl (fs_cnt (fs_bk w) 5) m) (fs_dec_f (fun q => absurd q.2.1 (by omega))), fs_num_f (p := fs_lg (fs_cnt (fs_bk w) 5) m) (fs_dec_f (fun q => absurd q.2.1 (by omega))), fs_wd_f (fun q => absurd q.2.1 (by omega)), fs_rl_f (fun q => absurd q.2 (by omega))] at t
      exact nm_r (nI_1 s) t
    · have efq : nI (fs_num (fs_fq (fs_cnt (fs_bk w) 5) m) s) + 1 = nI (fs_num (fs_fq (fs_cnt (fs_bk w) 5) m) (s + 1)) := by rw [fs_num_t (p := fs_fq (fs_cnt (fs_bk w) 5) m) (decide_eq_true ⟨h1, z⟩), nI_1]
      refine nm_r efq ?_
      refine fs_ltop hs (by omega) ?_
      rw [fs_p2 hB hm h1 hs z]
      cases c : fs_cl (fs_cnt (fs_bk w) 5) m s
      · exact br_t rfl (fs_v170 h1 hs hpc hm z (by rw [c]) (ih (s + 1) (by omega) (by omega) f0 f1 f2 a1 a2 a3 a4 a5 a6 a7 a8 a9 a10 a11 a12 a13 (Or.inr g)))
      · refine br_f (by decide) ?_
        refine fs_qcset (Or.inr g) hm hm5 h1 (by omega) c rfl ?_
        intro f0 f1 f2 a1 a2 a3 a4 a5 a6 a7 a8 a9 a10 a11 a12 a13 g
        refine br_t rfl ?_
        exact fs_v170 h1 hs hpc hm z (by rw [c]) (ih (s + 1) (by omega) (by omega) f0 f1 f2 a1 a2 a3 a4 a5 a6 a7 a8 a9 a10 a11 a12 a13 (Or.inr g))
/-- the companion -/
theorem fs_v400 {post : Int32 → St0 → Prop} {mc ms : Nat} {J : Int32 → Int32 → Int32 → Prop} {w : Int32} {kc ks : Nat} {f0 f1 f2 : Int32} {a1 a2 a3 a4 a5 a6 a7 a8 a9 a10 a11 a12 a13 : Nat → Int32} {s i : Nat} {cn : Nat → Nat} (hs : s < 32) (hi : i < 8)
    (H : J (fs_cm cn s (-1) (i + 1)).1 (fs_cm cn s (-1) (i + 1)).2 (nI (i + 1))) :
    wL_lawOf_400 post mc ms J w (nI s) (fs_cm cn s (-1) i).1 (fs_cm cn s (-1) i).2 (nI i) (nI (cn (s ||| 2 ^ i))) kc ks f0 f1 f2 a1 a2 a3 a4 a5 a6 a7 a8 a9 a10 a11 a12 a13 := by
  refine fs_ib s i (by omega) hi (fun b => br_c (fun z => ?_) (fun z => ?_)) (fun b => ?_)
  · rw [fs_cm_f (fun q => Int32.not_lt.mpr z q.2)] at H
    exact nm_r (nI_1 i) H
  · rw [fs_cm_t ⟨b, Int32.not_le.mp z⟩] at H
    exact nm_r (nI_1 i) H
  · rw [fs_cm_f (fun q => by rw [b] at q; exact absurd q.1 (by decide))] at H
    exact nm_r (nI_1 i) H
theorem fs_or_ge {s i : Nat} (hi : 5 ≤ i) : 32 ≤ s ||| 2 ^ i := Nat.le_trans (fs_pw (a := 5) hi) Nat.right_le_or
theorem fs_or_l5 {s i : Nat} (hs : s < 32) (hi : i < 5) : s ||| 2 ^ i < 32 := Nat.or_lt_two_pow (n := 5) hs (Nat.pow_lt_pow_right (by decide) hi)
theorem fs_lcountx {post : Int32 → Prop} {w x : Int32} {s : Nat} (hx : x = nI s) (hs : s < 32) (H : post (nI (fs_cnt (fs_bk w) 5 s))) : wpL_count post () w x := by
  subst hx
  exact fs_lcount hs H
theorem fs_v372 {post : Int32 → St0 → Prop} {mc ms : Nat} {w : Int32} {kc ks : Nat} {f0 f1 f2 : Int32} {a1 a2 a3 a4 a5 a6 a7 a8 a9 a10 a11 a12 a13 : Nat → Int32} {s : Nat} (h1 : 1 ≤ s) (hs : s < 32) (h : fs_Ob 5 (fs_bk w) f0 f1 a1 a10)
    (H : ∀ f0 f1 f2 a1 a2 a3 a4 a5 a6 a7 a8 a9 a10 a11 a12 a13, fs_Ob 5 (fs_bk w) f0 f1 a1 a10 → ∃ f, wL_lawOf_474 post mc ms w (nI s) kc ks f 0 f0 f1 f2 a1 a2 a3 a4 a5 a6 a7 a8 a9 a10 a11 a12 a13) :
    ∃ f, wL_lawOf_372 post mc ms w (nI s) kc ks f0 f1 f2 a1 a2 a3 a4 a5 a6 a7 a8 a9 a10 a11 a12 a13 f (-1) (-1) 0 := by
  have hB := fs_b5 w
  refine pk_loop (σ := Unit) (fun f i _ => wL_lawOf_372 post mc ms w (nI s) kc ks f0 f1 f2 a1 a2 a3 a4 a5 a6 a7 a8 a9 a10 a11 a12 a13 f (fs_cm (fs_cnt (fs_bk w) 5) s (-1) i).1 (fs_cm (fs_cnt (fs_bk w) 5) s (-1) i).2 (nI i)) (fun _ _ => True) 8 0 () (by omega) trivial ?_ ?_
  · intro f _ _
    have c5 := fs_cn5 w s
    refine pk_le 8 8 (fun _ => ?_) (fun z => absurd z (by omega))
    refine fs_qcomp h h1 (by omega) ?_
    intro f0 f1 f2 a1 a2 a3 a4 a5 a6 a7 a8 a9 a10 a11 a12 a13 g
    refine fs_lcount hs ?_
    refine pk_eq (fs_cnt (fs_bk w) 5 s) 0 (fun z => ?_) (fun z => ?_)
    · refine br_t (if_pos z) (fs_qcomp0 ?_)
      exact br_t rfl (H f0 f1 f2 a1 a2 a3 a4 a5 a6 a7 a8 a9 a10 a11 a12 a13 (Or.inr g))
    · refine br_t ?_ (fs_qcomp0 ?_)
      · rw [if_neg z, fs_cm_end (-3) (-1) hs (fun x => Nat.le_trans (fs_cn5 w x) (by omega))]
      · exact br_t rfl (H f0 f1 f2 a1 a2 a3 a4 a5 a6 a7 a8 a9 a10 a11 a12 a13 (Or.inr g))
  · intro f i _ hi _ hw
    have t := hw () trivial
    refine pk_le 8 i (fun z => absurd z (by omega)) (fun _ => pk_le 5 i (fun z => ?_) (fun z => ?_))
    · have e : (0 : Int32) = nI (fs_cnt (fs_bk w) 5 (s ||| 2 ^ i)) := by rw [fs_p1 hB (fs_or_ge z)]; rfl
      rw [e]
      exact fs_v400 hs hi t
    · refine fs_lcountx (fs_i2 s (by omega) i hi) (fs_or_l5 hs z) ?_
      exact fs_v400 hs hi t
/-- dropping the baskets one by one -/
theorem fs_v503 {post : Int32 → St0 → Prop} {mc ms : Nat} {J : Int32 → Int32 → Int32 → Int32 → (Nat → Int32) → (Nat → Int32) → (Nat → Int32) → (Nat → Int32) → (Nat → Int32) → (Nat → Int32) → (Nat → Int32) → (Nat → Int32) → (Nat → Int32) → (Nat → Int32) → (Nat → Int32) → (Nat → Int32) → (Nat → Int32) → Prop} {w : Int32} {kc ks : Nat} {f0 f1 f2 : Int32} {a1 a2 a3 a4 a5 a6 a7 a8 a9 a10 a11 a12 a13 : Nat → Int32} {s i : Nat} (hs : s < 32) (hi : i < 5) (h : fs_Ob (4 - i) (fun j => fs_bk w (j + (i + 1))) f0 f1 a1 a10)
    (H : ∀ f0 f1 f2 a1 a2 a3 a4 a5 a6 a7 a8 a9 a10 a11 a12 a13, fs_Ob (4 - i) (fun j => fs_bk w (j + (i + 1))) f0 f1 a1 a10 → J (nI (i + 1)) f0 f1 f2 a1 a2 a3 a4 a5 a6 a7 a8 a9 a10 a11 a12 a13) :
    ∃ f, wL_lawOf_503 post mc ms J w (nI s) (nI i) kc ks f0 f1 f2 a1 a2 a3 a4 a5 a6 a7 a8 a9 a10 a11 a12 a13 f 0 (nI (i + 1)) := by
  suffices L : ∃ f, wL_lawOf_503 post mc ms J w (nI s) (nI i) kc ks f0 f1 f2 a1 a2 a3 a4 a5 a6 a7 a8 a9 a10 a11 a12 a13 f (nI (fs_num (fun t => fs_sub s (fs_bk w (t + (i + 1)))) (i + 1 - (i + 1)))) (nI (i + 1)) by
    rw [Nat.sub_self] at L
    exact L
  refine pk_loop (σ := Unit) (fun f j _ => wL_lawOf_503 post mc ms J w (nI s) (nI i) kc ks f0 f1 f2 a1 a2 a3 a4 a5 a6 a7 a8 a9 a10 a11 a12 a13 f (nI (fs_num (fun t => fs_sub s (fs_bk w (t + (i + 1)))) (j - (i + 1)))) (nI j)) (fun j _ => i + 1 ≤ j) 5 (i + 1) () (by omega) (Nat.le_refl _) ?_ ?_
  · intro f _ _
    have e4 : (4 : Int32) - nI i = nI (4 - i) := pk_sub (a := 4) (by omega)
    refine pk_le 5 5 (fun _ => ?_) (fun z => absurd z (by omega))
    refine fs_qcount h (by omega) ?_
    intro f0 f1 f2 a1 a2 a3 a4 a5 a6 a7 a8 a9 a10 a11 a12 a13 g
    refine br_t (by rw [show 5 - (i + 1) = 4 - i by omega]; rfl) ?_
    refine fs_qcountx (s := 0) (Or.inr g) rfl (by omega) ?_
    intro f0 f1 f2 a1 a2 a3 a4 a5 a6 a7 a8 a9 a10 a11 a12 a13 g
    refine br_t (by rw [fs_cnt_0, e4]) (nm_r (nI_1 i) ?_)
    exact H f0 f1 f2 a1 a2 a3 a4 a5 a6 a7 a8 a9 a10 a11 a12 a13 (Or.inr g)
  · intro f j _ hj hI hw
    have t := hw () (by omega)
    have ej : j + 1 - (i + 1) = (j - (i + 1)) + 1 := by omega
    have ek : j - (i + 1) + (i + 1) = j := by omega
    rw [ej] at t
    refine pk_le 5 j (fun z => absurd z (by omega)) (fun _ => fs_lbasket w j ?_)
    refine fs_isub s (fs_bk w j) hs (fs_bk_eq w j).2 (fun c => ?_) (fun c => ?_)
    · rw [fs_num_t (by rw [ek]; exact c)] at t
      exact nm_r (nI_1 _) (nm_r (nI_1 j) t)
    · rw [fs_num_f (by rw [ek]; exact c)] at t
      exact nm_r (nI_1 j) t
theorem fs_v474 {post : Int32 → St0 → Prop} {mc ms : Nat} {w : Int32} {kc ks : Nat} {s : Nat} (hs : s < 32) (Hp : post 1 ()) :
    ∀ k i, i + k = 5 → ∀ f0 f1 f2 a1 a2 a3 a4 a5 a6 a7 a8 a9 a10 a11 a12 a13, fs_Ob (5 - i) (fun j => fs_bk w (j + i)) f0 f1 a1 a10 → wL_lawOf_474 post mc ms w (nI s) kc ks (k + 1) (nI i) f0 f1 f2 a1 a2 a3 a4 a5 a6 a7 a8 a9 a10 a11 a12 a13 := by
  intro k
  induction k with
  | zero =>
    intro i hi f0 f1 f2 a1 a2 a3 a4 a5 a6 a7 a8 a9 a10 a11 a12 a13 h
    have ei : i = 5 := by omega
    subst ei
    refine pk_le 5 5 (fun _ => ?_) (fun z => absurd z (by omega))
    refine fs_qdrop0 h ?_
    refine br_t rfl ?_
    refine fs_qclosure (s := 0) h (by omega) rfl ?_
    intro f0 f1 f2 a1 a2 a3 a4 a5 a6 a7 a8 a9 a10 a11 a12 a13 g
    refine br_t rfl ?_
    refine fs_qwidest (m := 1) (Or.inr g) (by omega) (by omega) ?_
    intro f0 f1 f2 a1 a2 a3 a4 a5 a6 a7 a8 a9 a10 a11 a12 a13 g
    exact br_t (congrArg nI (fs_no_wd (by omega))) Hp
  | succ k ih =>
    intro i hi f0 f1 f2 a1 a2 a3 a4 a5 a6 a7 a8 a9 a10 a11 a12 a13 h
    have e4 : (4 : Int32) - nI i = nI (4 - i) := pk_sub (a := 4) (by omega)
    rw [show 5 - i = (4 - i) + 1 by omega] at h
    refine pk_le 5 i (fun z => absurd z (by omega)) (fun _ => ?_)
    refine fs_qdrop h ?_
    intro f0 f1 f2 a1 a2 a3 a4 a5 a6 a7 a8 a9 a10 a11 a12 a13 g
    have eB : (fun j => (fun j => fs_bk w (j + i)) (j + 1)) = (fun j => fs_bk w (j + (i + 1))) := by
      funext j
      exact congrArg (fs_bk w) (by omega)
    rw [eB] at g
    refine br_t e4.symm (nm_r (nI_1 i) ?_)
    refine fs_v503 hs (by omega) g ?_
    intro f0 f1 f2 a1 a2 a3 a4 a5 a6 a7 a8 a9 a10 a11 a12 a13 g
    exact ih (i + 1) (by omega) f0 f1 f2 a1 a2 a3 a4 a5 a6 a7 a8 a9 a10 a11 a12 a13 (by rw [show 5 - (i + 1) = 4 - i by omega]; exact g)
end
section
/-! the law -/
theorem fs_v33 {post : Int32 → St0 → Prop} {mc ms : Nat} {w x3 x4 x5 : Int32} {kc ks : Nat}
    (H : ∀ f0 f1 f2 a1 a2 a3 a4 a5 a6 a7 a8 a9 a10 a11 a12 a13, fs_Ob 5 (fs_bk w) f0 f1 a1 a10 → ∃ f, wL_lawOf_87 post mc ms w x3 x4 x5 kc ks f 0 0 0 0 0 1 f0 f1 f2 a1 a2 a3 a4 a5 a6 a7 a8 a9 a10 a11 a12 a13) :
    ∀ k i, i + k = 5 → ∀ f0 f1 f2 a1 a2 a3 a4 a5 a6 a7 a8 a9 a10 a11 a12 a13, fs_Ob i (fs_bk w) f0 f1 a1 a10 → wL_lawOf_33 post mc ms w x3 x4 x5 kc ks (k + 1) (nI i) f0 f1 f2 a1 a2 a3 a4 a5 a6 a7 a8 a9 a10 a11 a12 a13 := by
  intro k
  induction k with
  | zero =>
    intro i hi f0 f1 f2 a1 a2 a3 a4 a5 a6 a7 a8 a9 a10 a11 a12 a13 h
    have ei : i = 5 := by omega
    subst ei
    exact pk_le 5 5 (fun _ => H f0 f1 f2 a1 a2 a3 a4 a5 a6 a7 a8 a9 a10 a11 a12 a13 h) (fun z => absurd z (by omega))
  | succ k ih =>
    intro i hi f0 f1 f2 a1 a2 a3 a4 a5 a6 a7 a8 a9 a10 a11 a12 a13 h
    have hb := (fs_bk_eq w i).2
    refine pk_le 5 i (fun z => absurd z (by omega)) (fun _ => fs_lbasket w i ?_)
    refine fs_qadd h (by omega) (by omega) ?_
    intro f0 f1 f2 a1 a2 a3 a4 a5 a6 a7 a8 a9 a10 a11 a12 a13 g
    exact br_t (nI_1 i).symm (nm_r (nI_1 i) (ih (i + 1) (by omega) f0 f1 f2 a1 a2 a3 a4 a5 a6 a7 a8 a9 a10 a11 a12 a13 g))
theorem fs_lawOf {post : Int32 → St0 → Prop} {w l t u : Int32} (Hp : post 1 ()) : wpL_lawOf post 14 2435 () w l t u := by
  obtain ⟨v1, hv1, e1⟩ := pk_andE l (m := 255) 8 (by decide)
  obtain ⟨v2, hv2, e2⟩ := pk_andE t (m := 255) 8 (by decide)
  obtain ⟨v3, hv3, e3⟩ := pk_andE u (m := 255) 8 (by decide)
  have r1 : 1 + ((l &&& 255) - (l &&& 255) / 5 * 5) = nI (1 + v1 % 5) := by
    rw [e1]
    show nI 1 + (nI v1 - nI v1 / nI 5 * nI 5) = _
    rw [pk_rem (by omega) (by omega) (by omega), nI_add]
  have r2 : (t &&& 255) - (t &&& 255) / 101 * 101 = nI (v2 % 101) := by
    rw [e2]
    show nI v2 - nI v2 / nI 101 * nI 101 = _
    rw [pk_rem (by omega) (by omega) (by omega)]
  have r3 : 1 + ((u &&& 255) - (u &&& 255) / 31 * 31) = nI (1 + v3 % 31) := by
    rw [e3]
    show nI 1 + (nI v3 - nI v3 / nI 31 * nI 31) = _
    rw [pk_rem (by omega) (by omega) (by omega), nI_add]
  refine ⟨by decide, nm_r r1 ⟨by decide, nm_r r2 ⟨by omega, by omega, 13, 2419, by omega, by omega, ?_⟩⟩⟩
  refine ⟨by omega, by omega, by omega, by omega, by omega, by omega, by omega, by omega, by omega, by omega, by omega, by omega, by omega, by omega, by omega, by omega, by omega, by omega, by omega, by omega, by omega, by omega, by omega, by omega, by omega, by omega, ?_⟩
  refine ⟨6, fs_v33 (fun f0 f1 f2 a1 a2 a3 a4 a5 a6 a7 a8 a9 a10 a11 a12 a13 h => ⟨32, ?_⟩) 5 0 (by omega) _ _ _ _ _ _ _ _ _ _ _ _ _ _ _ _ (Or.inl ⟨⟨by omega, rfl, fun b hb => absurd hb (by omega)⟩, rfl⟩)⟩
  have z1 : fs_num (fs_fq (fs_cnt (fs_bk w) 5) (1 + v1 % 5)) 1 = 0 := fs_num_f (decide_eq_false (fun q => absurd q.1 (by omega)))
  have z2 : fs_num (fs_cl (fs_cnt (fs_bk w) 5) (1 + v1 % 5)) 1 = 0 := fs_num_f (fs_dec_f (fun q => absurd q.1 (by omega)))
  have z3 : fs_num (fs_lg (fs_cnt (fs_bk w) 5) (1 + v1 % 5)) 1 = 0 := fs_num_f (fs_dec_f (fun q => absurd q.1 (by omega)))
  have z4 : fs_wd (fs_cnt (fs_bk w) 5) (1 + v1 % 5) 1 = 0 := fs_wd_f (fun q => absurd q.1 (by omega))
  have z5 : fs_rl (fs_cnt (fs_bk w) 5) (1 + v1 % 5) (v2 % 101) 1 = 0 := fs_rl_f (fun q => absurd q.1 (by omega))
  have L := fs_v87 (post := post) (mc := 14) (ms := 2435) (w := w) (x3 := u) (kc := 1 + 13) (ks := 16 + 2419) (m := 1 + v1 % 5) (pc := v2 % 101) (s0 := 1 + v3 % 31) (by omega) (by omega) (by omega) r3
    (fun f0 f1 f2 a1 a2 a3 a4 a5 a6 a7 a8 a9 a10 a11 a12 a13 h => fs_v372 (by omega) (by omega) h (fun f0 f1 f2 a1 a2 a3 a4 a5 a6 a7 a8 a9 a10 a11 a12 a13 h => ⟨6, fs_v474 (by omega) Hp 5 0 (by omega) f0 f1 f2 a1 a2 a3 a4 a5 a6 a7 a8 a9 a10 a11 a12 a13 h⟩))
    31 1 (by omega) (by omega) f0 f1 f2 a1 a2 a3 a4 a5 a6 a7 a8 a9 a10 a11 a12 a13 h
  rw [z1, z2, z3, z4, z5] at L
  exact L
theorem fs_cell {post : Int32 → Prop} {L : Nat} {xs : Nat → Int32} {x : Int32} (i : Nat) (hL : L ≤ 4) (hi : i < 4) (hx : x = nI i) (H : ∀ r, post r) : wpL_cellAt post L xs () x :=
  pk_le L i (fun _ => H _) (fun z => ⟨pk_in i L z hx, H _⟩) rfl hx
theorem i_vc (xs : Nat → Int32) (L : Nat) (hL : L ≤ 4) : wpL_law (fun r => r = 1) L xs := by
  unfold wpL_law
  refine fs_cell 0 hL (by omega) rfl (fun r1 => ?_)
  refine fs_cell 1 hL (by omega) rfl (fun r2 => ?_)
  refine fs_cell 2 hL (by omega) rfl (fun r3 => ?_)
  refine fs_cell 3 hL (by omega) rfl (fun r4 => ?_)
  exact ⟨14, 2435, by omega, by omega, fs_lawOf rfl⟩
end
