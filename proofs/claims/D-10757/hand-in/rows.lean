section
/-- the image of the point p under the map with code c: its digit -/
def tm_im (n c p : Nat) : Nat := c / n ^ (n - 1 - p) % n
/-- the code of 'f, then g': its first p digits -/
def tm_co (n f g : Nat) : Nat → Nat
  | 0 => 0
  | p + 1 => n * tm_co n f g p + tm_im n g (tm_im n f p)
/-- the identity's code: its first p digits -/
def tm_id (n : Nat) : Nat → Nat
  | 0 => 0
  | p + 1 => n * tm_id n p + p
def tm_un (n : Nat) : Nat := tm_id n n
/-- how many points there may be -/
def tm_N (n : Nat) : Prop := n = 2 ∨ n = 3 ∨ n = 4
theorem tm_bd {n : Nat} (h : tm_N n) : 4 ≤ n ^ n ∧ n ^ n ≤ 256 ∧ tm_un n < n ^ n ∧ 2 ≤ n ∧ n ≤ 4 := by
  rcases h with rfl | rfl | rfl <;> decide
theorem tm_im_lt {n : Nat} (h : 0 < n) (c p : Nat) : tm_im n c p < n := Nat.mod_lt _ h
theorem tm_co_lt {n : Nat} (h : 0 < n) (f g p : Nat) : tm_co n f g p < n ^ p := by
  induction p with
  | zero => exact Nat.one_pos
  | succ p ih =>
    have h2 := tm_im_lt h g (tm_im n f p)
    have h3 : n * (tm_co n f g p + 1) ≤ n * n ^ p := Nat.mul_le_mul_left n ih
    show n * tm_co n f g p + tm_im n g (tm_im n f p) < n ^ (p + 1)
    rw [Nat.pow_succ, Nat.mul_comm (n ^ p) n]
    rw [Nat.mul_add] at h3
    omega
theorem tm_d2 : ∀ k, k < 4 → tm_co 2 k 1 2 = k ∧ tm_co 2 1 k 2 = k := by decide +kernel
theorem tm_d3 : ∀ k, k < 27 → tm_co 3 k 5 3 = k ∧ tm_co 3 5 k 3 = k := by decide +kernel
theorem tm_d4 : ∀ k, k < 256 → tm_co 4 k 27 4 = k ∧ tm_co 4 27 k 4 = k := by decide +kernel
/-- the unit's code is a unit of the product -/
theorem tm_unit {n k : Nat} (h : tm_N n) (hk : k < n ^ n) : tm_co n k (tm_un n) n = k ∧ tm_co n (tm_un n) k n = k := by
  rcases h with rfl | rfl | rfl
  · rw [show tm_un 2 = 1 from rfl]
    exact tm_d2 k hk
  · rw [show tm_un 3 = 5 from rfl]
    exact tm_d3 k hk
  · rw [show tm_un 4 = 27 from rfl]
    exact tm_d4 k hk
theorem tm_ne {j : Nat} (h : j < 2 ^ 31) : ¬ nI j = -1 := fun e => nI_pos h (by rw [e]; decide)
theorem tm_4 (a g : Nat) : (4 : Int32) * nI a + nI g = nI (4 * a + g) := by
  show nI 4 * nI a + nI g = nI (4 * a + g)
  rw [pk_mul, nI_add]
/-! how many places below m hold something other than v -/
def tm_cnt (a : Nat → Int32) (v : Int32) : Nat → Nat
  | 0 => 0
  | m + 1 => tm_cnt a v m + (if a m = v then 0 else 1)
theorem tm_cnt_le (a : Nat → Int32) (v : Int32) (m : Nat) : tm_cnt a v m ≤ m := by
  induction m with
  | zero => exact Nat.le_refl 0
  | succ m ih =>
    show tm_cnt a v m + (if a m = v then 0 else 1) ≤ m + 1
    split <;> omega
theorem tm_cnt_lt {a : Nat → Int32} {v : Int32} {k m : Nat} (hk : k < m) (h : a k = v) : tm_cnt a v m < m := by
  induction m with
  | zero => omega
  | succ m ih =>
    show tm_cnt a v m + (if a m = v then 0 else 1) < m + 1
    by_cases e : k = m
    · rw [← e, if_pos h]
      have := tm_cnt_le a v k
      omega
    · have := ih (by omega)
      split <;> omega
theorem tm_cnt_out {a : Nat → Int32} {v x : Int32} {k m : Nat} (hk : m ≤ k) : tm_cnt (upd a k x) v m = tm_cnt a v m := by
  induction m with
  | zero => rfl
  | succ m ih =>
    show tm_cnt (upd a k x) v m + (if upd a k x m = v then 0 else 1) = tm_cnt a v m + (if a m = v then 0 else 1)
    rw [ih (by omega), pk_un (by omega)]
theorem tm_cnt_add {a : Nat → Int32} {v x : Int32} {k m : Nat} (hk : k < m) (h : a k = v) (hx : ¬ x = v) : tm_cnt (upd a k x) v m = tm_cnt a v m + 1 := by
  induction m with
  | zero => omega
  | succ m ih =>
    show tm_cnt (upd a k x) v m + (if upd a k x m = v then 0 else 1) = tm_cnt a v m + (if a m = v then 0 else 1) + 1
    by_cases e : k = m
    · rw [← e, tm_cnt_out (Nat.le_refl k), pk_us, if_neg hx, if_pos h]
    · rw [ih (by omega), pk_un (by omega)]
      exact Nat.add_right_comm _ _ _
theorem tm_cnt_0 {a : Nat → Int32} {v : Int32} {m : Nat} (h : ∀ j, j < m → a j = v) : tm_cnt a v m = 0 := by
  induction m with
  | zero => rfl
  | succ m ih =>
    show tm_cnt a v m + (if a m = v then 0 else 1) = 0
    rw [ih (fun j hj => h j (by omega)), if_pos (h m (by omega))]
/-! the picture of a refreshed state -/
/-- x is a number below m -/
def tm_V (m : Nat) (x : Int32) : Prop := ∃ k : Nat, k < m ∧ x = nI k
/-- the table a (right or left products) is filled below place T: its used places hold numbers of elements -/
def tm_F (c s : Nat) (a : Nat → Int32) (T : Nat) : Prop := ∀ b g : Nat, g < c → 4 * b + g < T → tm_V s (a (4 * b + g))
/-- s elements are numbered (a2: number, a3: codes, a4: before, a5: last), the unit among them as the first -/
def tm_B (n c s : Nat) (a2 a3 a4 a5 : Nat → Int32) : Prop :=
  1 ≤ s ∧ tm_cnt a2 (-1) (n ^ n) = s ∧ (∀ k, k < n ^ n → a2 k = -1 ∨ tm_V s (a2 k)) ∧ (∀ a, a < s → tm_V (n ^ n) (a3 a)) ∧ (∀ a, 1 ≤ a → a < s → tm_V a (a4 a) ∧ tm_V c (a5 a)) ∧ ¬ a2 (tm_un n) = -1 ∧ a3 0 = nI (tm_un n)
/-- the generators are codes -/
def tm_G (n c : Nat) (a1 : Nat → Int32) : Prop := ∀ g, g < c → tm_V (n ^ n) (a1 g)
/-- the generators below T are numbered -/
def tm_M (n c : Nat) (a1 a2 : Nat → Int32) (T : Nat) : Prop := ∀ g k : Nat, g < c → g < T → k < n ^ n → a1 g = nI k → ¬ a2 k = -1
def tm_I (n c s : Nat) (a1 a2 a3 a4 a5 a7 : Nat → Int32) (T : Nat) : Prop := tm_B n c s a2 a3 a4 a5 ∧ tm_F c s a7 T ∧ tm_M n c a1 a2 T
/-- what a refreshed state gives to those that ask it -/
def tm_D (n c s : Nat) (a1 a2 a7 a8 : Nat → Int32) : Prop := 1 ≤ s ∧ s ≤ 256 ∧ tm_V s (a2 (tm_un n)) ∧ (∀ g k : Nat, g < c → k < n ^ n → a1 g = nI k → ¬ a2 k = -1) ∧ tm_F c s a7 (4 * s) ∧ tm_F c s a8 (4 * s)
theorem tm_V_mono {m m' : Nat} {x : Int32} (h : m ≤ m') (v : tm_V m x) : tm_V m' x := by
  obtain ⟨k, hk, e⟩ := v
  exact ⟨k, by omega, e⟩
theorem tm_V_ne {m : Nat} {x : Int32} (h : m ≤ 2 ^ 31) (v : tm_V m x) : ¬ x = -1 := by
  obtain ⟨k, hk, e⟩ := v
  rw [e]
  exact tm_ne (by omega)
theorem tm_F_0 {c s : Nat} {a : Nat → Int32} : tm_F c s a 0 := fun b g _ h => absurd h (by omega)
theorem tm_F_mono {c s s' T T' : Nat} {a : Nat → Int32} (hs : s ≤ s') (hT : T' ≤ T) (h : tm_F c s a T) : tm_F c s' a T' := fun b g hg hb => tm_V_mono hs (h b g hg (by omega))
theorem tm_F_up {c s a : Nat} {r : Nat → Int32} (hc : c ≤ 4) (h : tm_F c s r (4 * a + c)) : tm_F c s r (4 * (a + 1)) := fun b g hg hb => h b g hg (by omega)
theorem tm_F_put {c s T : Nat} {r : Nat → Int32} {x : Int32} (h : tm_F c s r T) (hx : tm_V s x) : tm_F c s (upd r T x) (T + 1) := by
  intro b g hg hb
  by_cases e : 4 * b + g = T
  · rw [e, pk_us]
    exact hx
  · rw [pk_un e]
    exact h b g hg (by omega)
theorem tm_B_le {n c s : Nat} {a2 a3 a4 a5 : Nat → Int32} (h : tm_B n c s a2 a3 a4 a5) : s ≤ n ^ n := by
  have := tm_cnt_le a2 (-1) (n ^ n)
  have := h.2.1
  omega
theorem tm_B_lt {n c s k : Nat} {a2 a3 a4 a5 : Nat → Int32} (h : tm_B n c s a2 a3 a4 a5) (hk : k < n ^ n) (e : a2 k = -1) : s < n ^ n := by
  have := tm_cnt_lt (a := a2) hk e
  have := h.2.1
  omega
/-- the first element -/
theorem tm_B_0 {n c : Nat} {a2 a3 a4 a5 : Nat → Int32} (hN : tm_N n) (h : ∀ k, k < n ^ n → a2 k = -1) : tm_B n c 1 (upd a2 (tm_un n) (nI 0)) (upd a3 0 (nI (tm_un n))) a4 a5 := by
  have b := tm_bd hN
  refine ⟨Nat.le_refl 1, ?_, fun k hk => ?_, fun a ha => ?_, fun a h1 h2 => absurd h1 (by omega), ?_, pk_us⟩
  · rw [tm_cnt_add b.2.2.1 (h _ b.2.2.1) (tm_ne (by omega)), tm_cnt_0 h]
  · by_cases e : k = tm_un n
    · rw [e, pk_us]
      exact Or.inr ⟨0, by omega, rfl⟩
    · rw [pk_un e]
      exact Or.inl (h k hk)
  · rw [show a = 0 by omega, pk_us]
    exact ⟨tm_un n, b.2.2.1, rfl⟩
  · rw [pk_us]
    exact tm_ne (by omega)
/-- one more element, found at a by the generator g -/
theorem tm_I_enter {n c s a g k T : Nat} {a1 a2 a3 a4 a5 a7 : Nat → Int32} (hN : tm_N n) (h : tm_I n c s a1 a2 a3 a4 a5 a7 T) (ha : a < s) (hg : g < c) (hk : k < n ^ n) (e : a2 k = -1) :
    tm_I n c (s + 1) a1 (upd a2 k (nI s)) (upd a3 s (nI k)) (upd a4 s (nI a)) (upd a5 s (nI g)) a7 T := by
  have b := tm_bd hN
  have hs := tm_B_lt h.1 hk e
  obtain ⟨⟨h1, h2, h3, h4, h5, h6, h7⟩, hF, hM⟩ := h
  have ns : ¬ nI s = -1 := tm_ne (by omega)
  refine ⟨⟨by omega, ?_, fun j hj => ?_, fun j hj => ?_, fun j j1 j2 => ?_, ?_, ?_⟩, tm_F_mono (by omega) (Nat.le_refl T) hF, fun g' k' q1 q2 q3 q4 => ?_⟩
  · rw [tm_cnt_add hk e ns, h2]
  · by_cases z : j = k
    · rw [z, pk_us]
      exact Or.inr ⟨s, by omega, rfl⟩
    · rw [pk_un z]
      exact (h3 j hj).imp id (tm_V_mono (by omega))
  · by_cases z : j = s
    · rw [z, pk_us]
      exact ⟨k, hk, rfl⟩
    · rw [pk_un z]
      exact h4 j (by omega)
  · by_cases z : j = s
    · rw [z, pk_us, pk_us]
      exact ⟨⟨a, ha, rfl⟩, ⟨g, hg, rfl⟩⟩
    · rw [pk_un z, pk_un z]
      exact h5 j j1 (by omega)
  · by_cases z : tm_un n = k
    · rw [z, pk_us]
      exact ns
    · rw [pk_un z]
      exact h6
  · rw [pk_un (by omega)]
    exact h7
  · by_cases z : k' = k
    · rw [z, pk_us]
      exact ns
    · rw [pk_un z]
      exact hM g' k' q1 q2 q3 q4
/-- a right product is noted -/
theorem tm_I_put {n c s a g ka kg : Nat} {a1 a2 a3 a4 a5 a7 : Nat → Int32} (hN : tm_N n) (hc : c ≤ 4) (h : tm_I n c s a1 a2 a3 a4 a5 a7 (4 * a + g)) (ha : a < s) (hg : g < c) (hka : ka < n ^ n) (eka : a3 a = nI ka) (hkg : kg < n ^ n) (ekg : a1 g = nI kg)
    (e : ¬ a2 (tm_co n ka kg n) = -1) : tm_I n c s a1 a2 a3 a4 a5 (upd a7 (4 * a + g) (a2 (tm_co n ka kg n))) (4 * a + (g + 1)) := by
  have b := tm_bd hN
  obtain ⟨hB, hF, hM⟩ := h
  have hB' := hB
  obtain ⟨h1, h2, h3, h4, h5, h6, h7⟩ := hB'
  refine ⟨hB, tm_F_put hF ((h3 _ (tm_co_lt (by omega) ka kg n)).resolve_left e), fun g' k' q1 q2 q3 q4 => ?_⟩
  by_cases z : g' < 4 * a + g
  · exact hM g' k' q1 z q3 q4
  · have za : a = 0 := by omega
    have zg : g' = g := by omega
    rw [za, h7] at eka
    have e1 : tm_un n = ka := (nI_eq (by omega) (by omega)).mp eka
    rw [zg, ekg] at q4
    have e2 : kg = k' := (nI_eq (by omega) (by omega)).mp q4
    rw [← e1, (tm_unit hN hkg).2, e2] at e
    exact e
theorem tm_I_T {n c s T T' : Nat} {a1 a2 a3 a4 a5 a7 : Nat → Int32} (hT : T' ≤ T) (h : tm_I n c s a1 a2 a3 a4 a5 a7 T) : tm_I n c s a1 a2 a3 a4 a5 a7 T' := ⟨h.1, tm_F_mono (Nat.le_refl s) hT h.2.1, fun g k q1 q2 q3 q4 => h.2.2 g k q1 (by omega) q3 q4⟩
theorem tm_I_up {n c s a : Nat} {a1 a2 a3 a4 a5 a7 : Nat → Int32} (hc : c ≤ 4) (h : tm_I n c s a1 a2 a3 a4 a5 a7 (4 * a + c)) : tm_I n c s a1 a2 a3 a4 a5 a7 (4 * (a + 1)) := ⟨h.1, fun b g hg hb => h.2.1 b g hg (by omega), fun g k q1 _ q3 q4 => h.2.2 g k q1 (by omega) q3 q4⟩
end
section
section
variable {f0 f1 f2 f3 f4 : Int32} {a1 a2 a3 a4 a5 a6 a7 a8 a9 a10 a11 a12 : Nat → Int32}
theorem tm_i10 {post : Int32 → Prop} {n p : Nat} (h0 : 0 < n) (hn : n ≤ 4) (hp : p ≤ 4) : ∀ d x : Nat, d ≤ 4 → x < 2 ^ 31 → post (nI (x / n ^ d % n)) →
    wX_imageOf_10 post (nI p) (nI n) f1 f2 f3 f4 a1 a2 a3 a4 a5 a6 a7 a8 a9 a10 a11 a12 (d + 1) (nI x) (nI (p + d)) := by
  intro d
  induction d with
  | zero =>
    intro x _ hx H
    refine pk_le (p + 0) p (fun _ => ⟨nI_ne0 h0 (by omega), ?_⟩) (fun z => absurd z (by omega))
    rw [Nat.pow_zero, Nat.div_one] at H
    rw [pk_rem hx h0 (by omega)]
    exact H
  | succ d ih =>
    intro x hd hx H
    refine pk_le (p + (d + 1)) p (fun z => absurd z (by omega)) (fun _ => ⟨nI_ne0 h0 (by omega), nm_r (pk_div hx h0 (by omega)) (nm_r (pk_m1 (p + d)) (ih (x / n) (by omega) ?_ ?_))⟩)
    · exact Nat.lt_of_le_of_lt (Nat.div_le_self x n) hx
    · rw [Nat.div_div_eq_div_mul, ← Nat.pow_succ']
      exact H
theorem tm_image {post : Int32 → Prop} {n p x : Nat} {y z : Int32} (hN : tm_N n) (hp : p < n) (hx : x < 2 ^ 31) (hy : y = nI x) (hz : z = nI p) (H : post (nI (tm_im n x p))) :
    wpX_imageOf post (nI n, f1, f2, f3, f4, a1, a2, a3, a4, a5, a6, a7, a8, a9, a10, a11, a12) y z := by
  subst hy hz
  have b := tm_bd hN
  have t := tm_i10 (post := post) (n := n) (p := p) (f1 := f1) (f2 := f2) (f3 := f3) (f4 := f4) (a1 := a1) (a2 := a2) (a3 := a3) (a4 := a4) (a5 := a5) (a6 := a6) (a7 := a7) (a8 := a8) (a9 := a9) (a10 := a10) (a11 := a11) (a12 := a12) (by omega) (by omega) (by omega) (n - 1 - p) x (by omega) hx H
  rw [show p + (n - 1 - p) = n - 1 by omega] at t
  unfold wpX_imageOf
  exact nm_r (pk_sub (a := n) (b := 1) (by omega)) ⟨n - 1 - p + 1, t⟩
theorem tm_c5 {post : Int32 → Prop} {n f g : Nat} (hN : tm_N n) (hf : f < 2 ^ 31) (hg : g < 2 ^ 31) (H : post (nI (tm_co n f g n))) : ∀ d p : Nat, p + d = n →
    wX_compose_5 post (nI f) (nI g) (nI n) f1 f2 f3 f4 a1 a2 a3 a4 a5 a6 a7 a8 a9 a10 a11 a12 (d + 1) (nI (tm_co n f g p)) (nI p) := by
  have b := tm_bd hN
  intro d
  induction d with
  | zero =>
    intro p hp
    have e : p = n := by omega
    rw [e]
    exact pk_le n n (fun _ => H) (fun z => absurd z (by omega))
  | succ d ih =>
    intro p hp
    have key : nI n * nI (tm_co n f g p) + nI (tm_im n g (tm_im n f p)) = nI (tm_co n f g (p + 1)) := by
      rw [pk_mul, nI_add]
      rfl
    refine pk_le n p (fun z => absurd z (by omega)) (fun z => ?_)
    exact tm_image hN z hf rfl rfl (tm_image hN (tm_im_lt (by omega) f p) hg rfl rfl (nm_r key (nm_r (nI_1 p) (ih (p + 1) (by omega)))))
theorem tm_compose {post : Int32 → Prop} {n f g : Nat} {y z : Int32} (hN : tm_N n) (hf : f < 2 ^ 31) (hg : g < 2 ^ 31) (hy : y = nI f) (hz : z = nI g) (H : post (nI (tm_co n f g n))) :
    wpX_compose post (nI n, f1, f2, f3, f4, a1, a2, a3, a4, a5, a6, a7, a8, a9, a10, a11, a12) y z := by
  subst hy hz
  unfold wpX_compose
  exact ⟨n + 1, tm_c5 hN hf hg H n 0 (by omega)⟩
theorem tm_isT {post : Int32 → Prop} {m k : Nat} {x : Int32} (hm : m < 2 ^ 31) (hk : k < m) (hx : x = nI k) (H : post 1) :
    wpX_isCode post (f0, nI m, f2, f3, f4, a1, a2, a3, a4, a5, a6, a7, a8, a9, a10, a11, a12) x := by
  subst hx
  unfold wpX_isCode
  exact br_f (nI_pos (by omega)) (br_f (nI_ge hk hm) H)
theorem tm_isF {post : Int32 → Prop} {m : Nat} {x : Int32} (hx : x < 0 ∨ nI m ≤ x) (H : post 0) :
    wpX_isCode post (f0, nI m, f2, f3, f4, a1, a2, a3, a4, a5, a6, a7, a8, a9, a10, a11, a12) x := by
  unfold wpX_isCode
  exact br_c (fun _ => H) (fun z => br_t (hx.resolve_left z) H)
/-- a product of two codes -/
theorem tm_prodT {post : Int32 → Prop} {n f g : Nat} {y z : Int32} (hN : tm_N n) (hf : f < n ^ n) (hg : g < n ^ n) (hy : y = nI f) (hz : z = nI g) (H : post (nI (tm_co n f g n))) :
    wpX_product post (nI n, nI (n ^ n), f2, f3, f4, a1, a2, a3, a4, a5, a6, a7, a8, a9, a10, a11, a12) y z := by
  have b := tm_bd hN
  unfold wpX_product
  exact tm_isT (by omega) hf hy (br_f (by decide) (tm_isT (by omega) hg hz (br_f (by decide) (tm_compose hN (by omega) (by omega) hy hz H))))
/-- a product of which one factor is no code -/
theorem tm_prodF {post : Int32 → Prop} {m : Nat} {y z : Int32} (hm : m < 2 ^ 31) (h : (y < 0 ∨ nI m ≤ y) ∨ (z < 0 ∨ nI m ≤ z)) (H : post (-1)) :
    wpX_product post (f0, nI m, f2, f3, f4, a1, a2, a3, a4, a5, a6, a7, a8, a9, a10, a11, a12) y z := by
  unfold wpX_product
  rcases pk_ix y hm with q | q | ⟨j, hj, q⟩
  · exact tm_isF (Or.inl q) (br_t rfl H)
  · exact tm_isF (Or.inr q) (br_t rfl H)
  · have h' : z < 0 ∨ nI m ≤ z := by
      refine h.resolve_left (fun t => ?_)
      rw [q] at t
      exact t.elim (nI_pos (by omega)) (nI_ge hj hm)
    exact tm_isT hm hj q (br_f (by decide) (tm_isF h' (br_t rfl H)))
theorem tm_enter {post : St2 → Prop} {s k : Nat} {p1 p2 : Int32} (hs : s < 256) (hk : k < 256) (hp : p1 = -1 ∨ tm_V 256 p1)
    (H : ∀ a6' : Nat → Int32, post (f0, f1, f2, nI (s + 1), f4, a1, upd a2 k (nI s), upd a3 s (nI k), upd a4 s p1, upd a5 s p2, a6', a7, a8, a9, a10, a11, a12)) :
    wpX_enter post (f0, f1, f2, nI s, f4, a1, a2, a3, a4, a5, a6, a7, a8, a9, a10, a11, a12) (nI k) p1 p2 := by
  have cs : (nI s).toNatClampNeg = s := nI_clamp (by omega)
  have ck : (nI k).toNatClampNeg = k := nI_clamp (by omega)
  unfold wpX_enter
  refine ⟨pk_in k 256 hk, nm_r (e' := upd a2 k (nI s)) (by rw [ck]) ⟨pk_in s 256 hs, nm_r (e' := upd a3 s (nI k)) (by rw [cs]) ⟨pk_in s 256 hs, nm_r (e' := upd a4 s p1) (by rw [cs]) ⟨pk_in s 256 hs, nm_r (e' := upd a5 s p2) (by rw [cs]) (br_c (fun _ => ?_) (fun z => ?_))⟩⟩⟩⟩
  · exact ⟨pk_in s 256 hs, nm_e (nm_r (nI_1 s) (H _))⟩
  · obtain ⟨b, hb, e⟩ := hp.resolve_left z
    refine ⟨pk_in b 256 hb e, ?_⟩
    exact ⟨pk_in s 256 hs, nm_e (nm_r (nI_1 s) (H _))⟩
/-- the product of a generator and an element, out of the tables -/
theorem tm_leftOf {post : Int32 → Prop} {a g b l j j' : Nat} (ha : a < 256) (hg : g < 4) (hb : b < 256) (hl : l < 4) (hj : j < 256) (eb : a4 a = nI b) (el : a5 a = nI l) (ej : a8 (4 * b + g) = nI j) (ej' : a7 (4 * j + l) = nI j') (H : post (nI j')) :
    wpX_leftOf post (f0, f1, f2, f3, f4, a1, a2, a3, a4, a5, a6, a7, a8, a9, a10, a11, a12) (nI a) (nI g) := by
  have ca : (nI a).toNatClampNeg = a := nI_clamp (by omega)
  have q1 : (4 : Int32) * a4 (nI a).toNatClampNeg + nI g = nI (4 * b + g) := by rw [ca, eb, tm_4]
  have q2 : (4 : Int32) * nI j + a5 (nI a).toNatClampNeg = nI (4 * j + l) := by rw [ca, el, tm_4]
  have q3 : a8 ((4 : Int32) * a4 (nI a).toNatClampNeg + nI g).toNatClampNeg = nI j := by rw [q1, nI_clamp (by omega), ej]
  have q4 : a7 ((4 : Int32) * nI j + a5 (nI a).toNatClampNeg).toNatClampNeg = nI j' := by rw [q2, nI_clamp (by omega), ej']
  unfold wpX_leftOf
  refine ⟨pk_in a 256 ha, pk_in (4 * b + g) 1024 (by omega) q1, nm_r q3 ⟨pk_in a 256 ha, pk_in (4 * j + l) 1024 (by omega) q2, ?_⟩⟩
  rw [q4]
  exact H
end
end
section
section
variable {f0 f1 f2 f3 f4 : Int32} {a1 a2 a3 a4 a5 a6 a7 a8 a9 a10 a11 a12 : Nat → Int32}
/-- the left products of one element -/
theorem tm_180 {post : St2 → Prop} {J170 : Int32 → (Nat → Int32) → (Nat → Int32) → (Nat → Int32) → (Nat → Int32) → (Nat → Int32) → (Nat → Int32) → (Nat → Int32) → (Nat → Int32) → (Nat → Int32) → (Nat → Int32) → (Nat → Int32) → (Nat → Int32) → Prop} {c s a : Nat}
    (hc : c ≤ 4) (hs : s ≤ 256) (ha : a < s) (h4 : 1 ≤ a → tm_V a (a4 a) ∧ tm_V c (a5 a)) (h7 : tm_F c s a7 (4 * s))
    (hJ : ∀ a8 : Nat → Int32, tm_F c s a8 (4 * (a + 1)) → J170 (nI (a + 1)) a1 a2 a3 a4 a5 a6 a7 a8 a9 a10 a11 a12) : ∀ (d g : Nat) (a8 : Nat → Int32), g + d = c → tm_F c s a8 (4 * a + g) →
    wX_refresh_180 post J170 (nI a) f0 f1 (nI c) f3 f4 (d + 1) (nI g) a1 a2 a3 a4 a5 a6 a7 a8 a9 a10 a11 a12 := by
  intro d
  induction d with
  | zero =>
    intro g a8 hg h
    have e : g = c := by omega
    rw [e] at h
    rw [e]
    exact pk_le c c (fun _ => nm_r (nI_1 a) (hJ a8 (tm_F_up hc h))) (fun z => absurd z (by omega))
  | succ d ih =>
    intro g a8 hg h
    have ct : ((4 : Int32) * nI a + nI g).toNatClampNeg = 4 * a + g := by
      rw [tm_4]
      exact nI_clamp (by omega)
    have cg : (nI g).toNatClampNeg = g := nI_clamp (by omega)
    refine pk_le c g (fun z => absurd z (by omega)) (fun z => pk_eq a 0 (fun e => ?_) (fun e => ?_))
    · have v : tm_V s (a7 g) := by
        have t := h7 0 g z (by omega)
        rw [show 4 * 0 + g = g by omega] at t
        exact t
      exact ⟨pk_in g 1024 (by omega), pk_in (4 * a + g) 1024 (by omega) (tm_4 a g), nm_r (e' := upd a8 (4 * a + g) (a7 g)) (by rw [ct, cg]) (nm_r (nI_1 g) (ih (g + 1) _ (by omega) (tm_F_put h v)))⟩
    · obtain ⟨⟨b, hb, eb⟩, ⟨l, hl, el⟩⟩ := h4 (by omega)
      obtain ⟨j, hj, ej⟩ := h b g z (by omega)
      obtain ⟨j', hj', ej'⟩ := h7 j l hl (by omega)
      refine tm_leftOf (by omega) (by omega) (by omega) (by omega) (by omega) eb el ej ej' ?_
      exact ⟨pk_in (4 * a + g) 1024 (by omega) (tm_4 a g), nm_r (e' := upd a8 (4 * a + g) (nI j')) (by rw [ct]) (nm_r (nI_1 g) (ih (g + 1) _ (by omega) (tm_F_put h ⟨j', hj', rfl⟩)))⟩
/-- all left products -/
theorem tm_170 {post : St2 → Prop} {c s : Nat} (hc : c ≤ 4) (hs : s ≤ 256) (h4 : ∀ a, 1 ≤ a → a < s → tm_V a (a4 a) ∧ tm_V c (a5 a)) (h7 : tm_F c s a7 (4 * s))
    (H : ∀ a8 : Nat → Int32, tm_F c s a8 (4 * s) → post (f0, f1, nI c, nI s, f4, a1, a2, a3, a4, a5, a6, a7, a8, a9, a10, a11, a12)) : ∀ (d a : Nat) (a8 : Nat → Int32), a + d = s → tm_F c s a8 (4 * a) →
    wX_refresh_170 post f0 f1 (nI c) (nI s) f4 (d + 1) (nI a) a1 a2 a3 a4 a5 a6 a7 a8 a9 a10 a11 a12 := by
  intro d
  induction d with
  | zero =>
    intro a a8 ha h
    have e : a = s := by omega
    rw [e] at h
    rw [e]
    exact pk_le s s (fun _ => H a8 h) (fun z => absurd z (by omega))
  | succ d ih =>
    intro a a8 ha h
    refine pk_le s a (fun z => absurd z (by omega)) (fun z => ⟨c + 1, ?_⟩)
    exact tm_180 hc hs z (fun q => h4 a q z) h7 (fun a8' h' => ih (a + 1) a8' (by omega) h') c 0 a8 (by omega) h
/-- the right products of one element -/
theorem tm_94 {post : St2 → Prop} {J77 : Int32 → Int32 → Int32 → Int32 → Int32 → Int32 → (Nat → Int32) → (Nat → Int32) → (Nat → Int32) → (Nat → Int32) → (Nat → Int32) → (Nat → Int32) → (Nat → Int32) → (Nat → Int32) → (Nat → Int32) → (Nat → Int32) → (Nat → Int32) → (Nat → Int32) → Prop} {n c a : Nat}
    (hN : tm_N n) (hc : c ≤ 4) (hG : tm_G n c a1)
    (hJ : ∀ (s : Nat) (a2 a3 a4 a5 a6 a7 : Nat → Int32), a < s → tm_I n c s a1 a2 a3 a4 a5 a7 (4 * (a + 1)) → J77 (nI (a + 1)) (nI n) (nI (n ^ n)) (nI c) (nI s) f4 a1 a2 a3 a4 a5 a6 a7 a8 a9 a10 a11 a12) :
    ∀ (d g s : Nat) (a2 a3 a4 a5 a6 a7 : Nat → Int32), g + d = c → a < s → tm_I n c s a1 a2 a3 a4 a5 a7 (4 * a + g) →
    wX_refresh_94 post J77 (nI a) (d + 1) (nI g) (nI n) (nI (n ^ n)) (nI c) (nI s) f4 a1 a2 a3 a4 a5 a6 a7 a8 a9 a10 a11 a12 := by
  have b := tm_bd hN
  intro d
  induction d with
  | zero =>
    intro g s a2 a3 a4 a5 a6 a7 hg ha h
    have e : g = c := by omega
    rw [e] at h
    rw [e]
    exact pk_le c c (fun _ => nm_r (nI_1 a) (hJ s a2 a3 a4 a5 a6 a7 ha (tm_I_up hc h))) (fun z => absurd z (by omega))
  | succ d ih =>
    intro g s a2 a3 a4 a5 a6 a7 hg ha h
    have hs := tm_B_le h.1
    have ct : ((4 : Int32) * nI a + nI g).toNatClampNeg = 4 * a + g := by
      rw [tm_4]
      exact nI_clamp (by omega)
    refine pk_le c g (fun z => absurd z (by omega)) (fun z => ?_)
    obtain ⟨ka, hka, eka⟩ := h.1.2.2.2.1 a ha
    obtain ⟨kg, hkg, ekg⟩ := hG g z
    have e1 : a3 (nI a).toNatClampNeg = nI ka := by rw [nI_clamp (by omega), eka]
    have e2 : a1 (nI g).toNatClampNeg = nI kg := by rw [nI_clamp (by omega), ekg]
    have hk := tm_co_lt (n := n) (by omega) ka kg n
    have ck : (nI (tm_co n ka kg n)).toNatClampNeg = tm_co n ka kg n := nI_clamp (by omega)
    refine ⟨pk_in a 256 (by omega), pk_in g 4 (by omega), tm_compose hN (by omega) (by omega) e1 e2 ⟨pk_in (tm_co n ka kg n) 256 (by omega), br_c (fun e => ?_) (fun e => ?_)⟩⟩
    · rw [ck] at e
      have hs' := tm_B_lt h.1 hk e
      refine tm_enter (by omega) (by omega) (Or.inr ⟨a, by omega, rfl⟩) (fun a6' => ?_)
      have t := tm_I_enter hN h ha z hk e
      have ns : ¬ upd a2 (tm_co n ka kg n) (nI s) (tm_co n ka kg n) = -1 := by
        rw [pk_us]
        exact tm_ne (by omega)
      have t' := tm_I_put hN hc t (by omega) z hka (by rw [pk_un (by omega)]; exact eka) hkg ekg ns
      exact ⟨pk_in (tm_co n ka kg n) 256 (by omega), pk_in (4 * a + g) 1024 (by omega) (tm_4 a g), nm_r (e' := upd a7 (4 * a + g) (upd a2 (tm_co n ka kg n) (nI s) (tm_co n ka kg n))) (by rw [ct, ck]) (nm_r (nI_1 g) (ih (g + 1) (s + 1) _ _ _ _ a6' _ (by omega) (by omega) t'))⟩
    · rw [ck] at e
      have t' := tm_I_put hN hc h ha z hka eka hkg ekg e
      exact ⟨pk_in (tm_co n ka kg n) 256 (by omega), pk_in (4 * a + g) 1024 (by omega) (tm_4 a g), nm_r (e' := upd a7 (4 * a + g) (a2 (tm_co n ka kg n))) (by rw [ct, ck]) (nm_r (nI_1 g) (ih (g + 1) s _ _ _ _ a6 _ (by omega) ha t'))⟩
/-- breadth first over all elements -/
theorem tm_77 {post : St2 → Prop} {n c : Nat} (hN : tm_N n) (hc : c ≤ 4) (hG : tm_G n c a1)
    (hP : ∀ (s : Nat) (a2 a3 a4 a5 a6 a7 : Nat → Int32), tm_I n c s a1 a2 a3 a4 a5 a7 (4 * s) → ∃ fu : Nat, wX_refresh_170 post (nI n) (nI (n ^ n)) (nI c) (nI s) f4 fu 0 a1 a2 a3 a4 a5 a6 a7 a8 a9 a10 a11 a12) :
    ∀ (d a s : Nat) (a2 a3 a4 a5 a6 a7 : Nat → Int32), a + d = 256 → tm_I n c s a1 a2 a3 a4 a5 a7 (4 * a) →
    wX_refresh_77 post (d + 1) (nI a) (nI n) (nI (n ^ n)) (nI c) (nI s) f4 a1 a2 a3 a4 a5 a6 a7 a8 a9 a10 a11 a12 := by
  have b := tm_bd hN
  intro d
  induction d with
  | zero =>
    intro a s a2 a3 a4 a5 a6 a7 hd h
    have hs := tm_B_le h.1
    exact pk_le 256 a (fun _ => hP s a2 a3 a4 a5 a6 a7 (tm_I_T (by omega) h)) (fun z => absurd z (by omega))
  | succ d ih =>
    intro a s a2 a3 a4 a5 a6 a7 hd h
    have hs := tm_B_le h.1
    refine pk_le 256 a (fun z => absurd z (by omega)) (fun z => pk_le s a (fun q => hP s a2 a3 a4 a5 a6 a7 (tm_I_T (by omega) h)) (fun q => ⟨c + 1, ?_⟩))
    exact tm_94 hN hc hG (fun s' b2 b3 b4 b5 b6 b7 _ h' => ih (a + 1) s' b2 b3 b4 b5 b6 b7 (by omega) h') c 0 s a2 a3 a4 a5 a6 a7 (by omega) q h
/-- the identity is entered -/
theorem tm_40 {post : St2 → Prop} {n c : Nat} (hN : tm_N n) (hc : c ≤ 4) (hG : tm_G n c a1) (h2 : ∀ k, k < n ^ n → a2 k = -1)
    (hP : ∀ (s : Nat) (a2 a3 a4 a5 a6 a7 : Nat → Int32), tm_I n c s a1 a2 a3 a4 a5 a7 (4 * s) → ∃ fu : Nat, wX_refresh_170 post (nI n) (nI (n ^ n)) (nI c) (nI s) f4 fu 0 a1 a2 a3 a4 a5 a6 a7 a8 a9 a10 a11 a12) :
    ∀ d p : Nat, p + d = n → wX_refresh_40 post (nI n) (nI (n ^ n)) (nI c) f3 f4 a1 a2 a3 a4 a5 a6 a7 a8 a9 a10 a11 a12 (d + 1) (nI (tm_id n p)) (nI p) := by
  have b := tm_bd hN
  intro d
  induction d with
  | zero =>
    intro p hp
    have e : p = n := by omega
    rw [e]
    have hu : tm_id n n < n ^ n := b.2.2.1
    refine pk_le n n (fun _ => tm_enter (s := 0) (by omega) (by omega) (Or.inl rfl) (fun a6' => ⟨257, ?_⟩)) (fun z => absurd z (by omega))
    exact tm_77 hN hc hG hP 256 0 1 _ _ _ _ _ _ (by omega) ⟨tm_B_0 hN h2, tm_F_0, fun g k _ q _ _ => absurd q (by omega)⟩
  | succ d ih =>
    intro p hp
    have key : nI n * nI (tm_id n p) + nI p = nI (tm_id n (p + 1)) := by
      rw [pk_mul, nI_add]
      rfl
    exact pk_le n p (fun z => absurd z (by omega)) (fun _ => nm_r key (nm_r (nI_1 p) (ih (p + 1) (by omega))))
/-- the numbers are cleared -/
theorem tm_15 {post : St2 → Prop} {m : Nat} (hm : m ≤ 256)
    (hP : ∀ a2 : Nat → Int32, (∀ k, k < m → a2 k = -1) → ∃ fu : Nat, wX_refresh_40 post f0 (nI m) f2 f3 f4 a1 a2 a3 a4 a5 a6 a7 a8 a9 a10 a11 a12 fu 0 0) :
    ∀ (d k : Nat) (a2 : Nat → Int32), k + d = m → (∀ j, j < k → a2 j = -1) → wX_refresh_15 post f0 (nI m) f2 f3 f4 (d + 1) (nI k) a1 a2 a3 a4 a5 a6 a7 a8 a9 a10 a11 a12 := by
  intro d
  induction d with
  | zero =>
    intro k a2 hk h
    have e : k = m := by omega
    rw [e] at h
    rw [e]
    exact pk_le m m (fun _ => hP a2 h) (fun z => absurd z (by omega))
  | succ d ih =>
    intro k a2 hk h
    refine pk_le m k (fun z => absurd z (by omega)) (fun _ => ⟨pk_in k 256 (by omega), nm_r (e' := upd a2 k (-1)) (by rw [nI_clamp (by omega)]) (nm_r (nI_1 k) (ih (k + 1) _ (by omega) (fun j hj => ?_)))⟩)
    by_cases q : j = k
    · rw [q, pk_us]
    · rw [pk_un q]
      exact h j (by omega)
/-- refresh, when something has changed -/
theorem tm_refresh0 {post : St2 → Prop} {n c : Nat} (hN : tm_N n) (hc : c ≤ 4) (hG : tm_G n c a1)
    (H : ∀ (s : Nat) (a2 a3 a4 a5 a6 a7 a8 : Nat → Int32), tm_D n c s a1 a2 a7 a8 → post (nI n, nI (n ^ n), nI c, nI s, 1, a1, a2, a3, a4, a5, a6, a7, a8, a9, a10, a11, a12)) :
    wpX_refresh post (nI n, nI (n ^ n), nI c, f3, 0, a1, a2, a3, a4, a5, a6, a7, a8, a9, a10, a11, a12) := by
  have b := tm_bd hN
  unfold wpX_refresh
  refine br_t rfl ⟨n ^ n + 1, tm_15 b.2.1 (fun b2 hb2 => ⟨n + 1, tm_40 hN hc hG hb2 (fun s c2 c3 c4 c5 c6 c7 hI => ⟨s + 1, ?_⟩) n 0 (by omega)⟩) (n ^ n) 0 a2 (by omega) (fun j hj => absurd hj (by omega))⟩
  have hs := tm_B_le hI.1
  refine tm_170 hc (by omega) hI.1.2.2.2.2.1 hI.2.1 (fun b8 h8 => H s c2 c3 c4 c5 c6 c7 b8 ⟨hI.1.1, by omega, ?_, ?_, hI.2.1, h8⟩) s 0 a8 (by omega) tm_F_0
  · exact (hI.1.2.2.1 _ b.2.2.1).resolve_left hI.1.2.2.2.2.2.1
  · intro g k q1 q2 q3
    have := hI.1.1
    exact hI.2.2 g k q1 (by omega) q2 q3
/-- refresh, when nothing has changed -/
theorem tm_refresh1 {post : St2 → Prop} (H : post (f0, f1, f2, f3, 1, a1, a2, a3, a4, a5, a6, a7, a8, a9, a10, a11, a12)) :
    wpX_refresh post (f0, f1, f2, f3, 1, a1, a2, a3, a4, a5, a6, a7, a8, a9, a10, a11, a12) := by
  unfold wpX_refresh
  exact br_f (by decide) H
end
end
section
/-- q elements are reached (a10: reached), and stand in the queue (a12) -/
def tm_S (s q : Nat) (a10 a12 : Nat → Int32) : Prop := tm_cnt a10 0 s = q ∧ ∀ i, i < q → tm_V s (a12 i)
theorem tm_S_le {s q : Nat} {a10 a12 : Nat → Int32} (h : tm_S s q a10 a12) : q ≤ s := by
  have := tm_cnt_le a10 0 s
  have := h.1
  omega
theorem tm_S_add {s q j : Nat} {a10 a12 : Nat → Int32} (h : tm_S s q a10 a12) (hj : j < s) (e : a10 j = 0) : tm_S s (q + 1) (upd a10 j 1) (upd a12 q (nI j)) := by
  refine ⟨?_, fun i hi => ?_⟩
  · rw [tm_cnt_add hj e (by decide), h.1]
  · by_cases z : i = q
    · rw [z, pk_us]
      exact ⟨j, hj, rfl⟩
    · rw [pk_un z]
      exact h.2 i (by omega)
theorem tm_S_1 {s j : Nat} {a10 a12 : Nat → Int32} (hj : j < s) (h : ∀ k, k < s → a10 k = 0) : tm_S s 1 (upd a10 j 1) (upd a12 0 (nI j)) := by
  refine ⟨?_, fun i hi => ?_⟩
  · rw [tm_cnt_add hj (h j hj) (by decide), tm_cnt_0 h]
  · rw [show i = 0 by omega, pk_us]
    exact ⟨j, hj, rfl⟩
section
variable {f0 f1 f2 f3 f4 : Int32} {a1 a2 a3 a4 a5 a6 a7 a8 a9 a10 a11 a12 : Nat → Int32}
theorem tm_148 {post : Int32 → St2 → Prop} {J42 J59 : Int32 → Int32 → (Nat → Int32) → (Nat → Int32) → (Nat → Int32) → (Nat → Int32) → (Nat → Int32) → (Nat → Int32) → (Nat → Int32) → (Nat → Int32) → (Nat → Int32) → (Nat → Int32) → (Nat → Int32) → (Nat → Int32) → Prop} {x1 x4 x8 : Int32} (z0 : Int32) {s q k j : Nat}
    (hs : s ≤ 256) (h : tm_S s q a10 a12) (hj : j < s) (ej : x8 = nI j)
    (HJ : ∀ (q' : Nat) (a10 a12 : Nat → Int32), q ≤ q' → tm_S s q' a10 a12 → J59 (nI q') (nI (k + 1)) a1 a2 a3 a4 a5 a6 a7 a8 a9 a10 a11 a12) :
    wX_spread_148 post J42 J59 x1 (nI q) x4 (nI k) x8 z0 f0 f1 f2 f3 f4 a1 a2 a3 a4 a5 a6 a7 a8 a9 a10 a11 a12 := by
  subst ej
  have cj : (nI j).toNatClampNeg = j := nI_clamp (by omega)
  have hq := tm_S_le h
  unfold wX_spread_148
  refine br_c (fun _ => nm_r (nI_1 k) (HJ q a10 a12 (Nat.le_refl q) h)) (fun _ => ⟨pk_in j 256 (by omega), br_c (fun e => ?_) (fun _ => nm_r (nI_1 k) (HJ q a10 a12 (Nat.le_refl q) h))⟩)
  rw [cj] at e
  have hq' := tm_cnt_lt (a := a10) hj e
  rw [h.1] at hq'
  exact ⟨pk_in j 256 (by omega), nm_r (e' := upd a10 j 1) (by rw [cj]) ⟨pk_in q 256 (by omega), nm_r (e' := upd a12 q (nI j)) (by rw [nI_clamp (by omega)]) (nm_r (nI_1 q) (nm_r (nI_1 k) (HJ (q + 1) _ _ (by omega) (tm_S_add h hj e))))⟩⟩
theorem tm_122 {post : Int32 → St2 → Prop} {J42 J59 : Int32 → Int32 → (Nat → Int32) → (Nat → Int32) → (Nat → Int32) → (Nat → Int32) → (Nat → Int32) → (Nat → Int32) → (Nat → Int32) → (Nat → Int32) → (Nat → Int32) → (Nat → Int32) → (Nat → Int32) → (Nat → Int32) → Prop} {x1 x4 x6 x8 : Int32} {s q k j : Nat}
    (hs : s ≤ 256) (h : tm_S s q a10 a12) (hj : j < s) (ej : x8 = nI j)
    (HJ : ∀ (q' : Nat) (a10 a12 : Nat → Int32), q ≤ q' → tm_S s q' a10 a12 → J59 (nI q') (nI (k + 1)) a1 a2 a3 a4 a5 a6 a7 a8 a9 a10 a11 a12) :
    wX_spread_122 post J42 J59 x1 (nI q) x4 (nI k) x6 x8 f0 f1 f2 f3 f4 a1 a2 a3 a4 a5 a6 a7 a8 a9 a10 a11 a12 := by
  have t : ∀ z : Int32, wX_spread_148 post J42 J59 x1 (nI q) x4 (nI k) x8 z f0 f1 f2 f3 f4 a1 a2 a3 a4 a5 a6 a7 a8 a9 a10 a11 a12 := fun z => tm_148 z hs h hj ej HJ
  have t1 : wX_spread_143 post J42 J59 x1 (nI q) x4 (nI k) x8 f0 f1 f2 f3 f4 a1 a2 a3 a4 a5 a6 a7 a8 a9 a10 a11 a12 := by
    unfold wX_spread_143
    exact t 1
  have t2 : ∀ z : Int32, wX_spread_138 post J42 J59 x1 (nI q) x4 (nI k) x6 x8 z f0 f1 f2 f3 f4 a1 a2 a3 a4 a5 a6 a7 a8 a9 a10 a11 a12 := by
    intro z
    unfold wX_spread_138
    exact br_c (fun _ => t1) (fun _ => t 0)
  unfold wX_spread_122
  exact br_c (fun _ => t1) (fun _ => br_c (fun _ => t2 1) (fun _ => t2 0))
theorem tm_82 {post : Int32 → St2 → Prop} {J42 J59 : Int32 → Int32 → (Nat → Int32) → (Nat → Int32) → (Nat → Int32) → (Nat → Int32) → (Nat → Int32) → (Nat → Int32) → (Nat → Int32) → (Nat → Int32) → (Nat → Int32) → (Nat → Int32) → (Nat → Int32) → (Nat → Int32) → Prop} {x1 : Int32} (z0 : Int32) {c s q k i : Nat}
    (hc : c ≤ 4) (hs : s ≤ 256) (hk : k < 2 * c) (h : tm_S s q a10 a12) (hi : i < q) (h7 : tm_F c s a7 (4 * s)) (h8 : tm_F c s a8 (4 * s))
    (HJ : ∀ (q' : Nat) (a10 a12 : Nat → Int32), q ≤ q' → tm_S s q' a10 a12 → J59 (nI q') (nI (k + 1)) a1 a2 a3 a4 a5 a6 a7 a8 a9 a10 a11 a12) :
    wX_spread_82 post J42 J59 x1 (nI q) (nI i) (nI k) z0 f0 f1 f2 f3 f4 a1 a2 a3 a4 a5 a6 a7 a8 a9 a10 a11 a12 := by
  have hq := tm_S_le h
  obtain ⟨j, hj, ej⟩ := h.2 i hi
  have e1 : (4 : Int32) * a12 (nI i).toNatClampNeg + (nI k >>> ((1 : Int32) &&& 31)) = nI (4 * j + k / 2) := by
    rw [nI_clamp (by omega), ej, pk_shrN (by omega) ((1 : Int32) &&& 31) 1 (by decide), Nat.pow_one, tm_4]
  have ce : (nI (4 * j + k / 2)).toNatClampNeg = 4 * j + k / 2 := nI_clamp (by omega)
  obtain ⟨j7, hj7, ej7⟩ := h7 j (k / 2) (by omega) (by omega)
  obtain ⟨j8, hj8, ej8⟩ := h8 j (k / 2) (by omega) (by omega)
  unfold wX_spread_82
  exact ⟨pk_in i 256 (by omega), nm_r e1 (br_c (fun _ => ⟨pk_in (4 * j + k / 2) 1024 (by omega), tm_122 hs h hj8 (by rw [ce]; exact ej8) HJ⟩) (fun _ => ⟨pk_in (4 * j + k / 2) 1024 (by omega), tm_122 hs h hj7 (by rw [ce]; exact ej7) HJ⟩))⟩
theorem tm_59 {post : Int32 → St2 → Prop} {J42 : Int32 → Int32 → (Nat → Int32) → (Nat → Int32) → (Nat → Int32) → (Nat → Int32) → (Nat → Int32) → (Nat → Int32) → (Nat → Int32) → (Nat → Int32) → (Nat → Int32) → (Nat → Int32) → (Nat → Int32) → (Nat → Int32) → Prop} {x1 : Int32} {c s i : Nat}
    (hc : c ≤ 4) (hs : s ≤ 256) (h7 : tm_F c s a7 (4 * s)) (h8 : tm_F c s a8 (4 * s))
    (HJ : ∀ (q : Nat) (a10 a12 : Nat → Int32), tm_S s q a10 a12 → J42 (nI q) (nI (i + 1)) a1 a2 a3 a4 a5 a6 a7 a8 a9 a10 a11 a12) :
    ∀ (d k q : Nat) (a10 a12 : Nat → Int32), k + d = 2 * c → i < q → tm_S s q a10 a12 → wX_spread_59 post J42 x1 (nI i) f0 f1 (nI c) f3 f4 (d + 1) (nI q) (nI k) a1 a2 a3 a4 a5 a6 a7 a8 a9 a10 a11 a12 := by
  have e2 : (2 : Int32) * nI c = nI (2 * c) := pk_mul 2 c
  intro d
  induction d with
  | zero =>
    intro k q a10 a12 hk hi h
    exact pk_le (2 * c) k (fun _ => nm_r (nI_1 i) (HJ q a10 a12 h)) (fun z => absurd z (by omega)) e2
  | succ d ih =>
    intro k q a10 a12 hk hi h
    have t : ∀ z : Int32, wX_spread_82 post J42 (wX_spread_59 post J42 x1 (nI i) f0 f1 (nI c) f3 f4 (d + 1)) x1 (nI q) (nI i) (nI k) z f0 f1 (nI c) f3 f4 a1 a2 a3 a4 a5 a6 a7 a8 a9 a10 a11 a12 :=
      fun z => tm_82 z hc hs (by omega) h hi h7 h8 (fun q' b10 b12 hq h' => ih (k + 1) q' b10 b12 (by omega) (by omega) h')
    exact pk_le (2 * c) k (fun z => absurd z (by omega)) (fun _ => br_c (fun _ => t 1) (fun _ => t 0)) e2
theorem tm_42 {post : Int32 → St2 → Prop} {x1 : Int32} {c s : Nat}
    (hc : c ≤ 4) (hs : s ≤ 256) (h7 : tm_F c s a7 (4 * s)) (h8 : tm_F c s a8 (4 * s))
    (H : ∀ (r : Int32) (a10 a12 : Nat → Int32), post r (f0, f1, nI c, f3, f4, a1, a2, a3, a4, a5, a6, a7, a8, a9, a10, a11, a12)) :
    ∀ (d i q : Nat) (a10 a12 : Nat → Int32), i + d = 256 → tm_S s q a10 a12 → wX_spread_42 post x1 f0 f1 (nI c) f3 f4 (d + 1) (nI q) (nI i) a1 a2 a3 a4 a5 a6 a7 a8 a9 a10 a11 a12 := by
  intro d
  induction d with
  | zero =>
    intro i q a10 a12 hi h
    exact pk_le 256 i (fun _ => H _ _ _) (fun z => absurd z (by omega))
  | succ d ih =>
    intro i q a10 a12 hi h
    have hq := tm_S_le h
    refine pk_le 256 i (fun z => absurd z (by omega)) (fun _ => pk_le q i (fun _ => H _ _ _) (fun z => ⟨2 * c + 1, ?_⟩))
    exact tm_59 hc hs h7 h8 (fun q' b10 b12 h' => ih (i + 1) q' b10 b12 (by omega) h') (2 * c) 0 q a10 a12 (by omega) z h
theorem tm_2 {post : Int32 → St2 → Prop} {x1 : Int32} {c s j : Nat}
    (hc : c ≤ 4) (hs : s ≤ 256) (hj : j < s) (h7 : tm_F c s a7 (4 * s)) (h8 : tm_F c s a8 (4 * s))
    (H : ∀ (r : Int32) (a10 a12 : Nat → Int32), post r (f0, f1, nI c, nI s, f4, a1, a2, a3, a4, a5, a6, a7, a8, a9, a10, a11, a12)) :
    ∀ (d k : Nat) (a10 : Nat → Int32), k + d = s → (∀ i, i < k → a10 i = 0) → wX_spread_2 post x1 (nI j) f0 f1 (nI c) (nI s) f4 (d + 1) (nI k) a1 a2 a3 a4 a5 a6 a7 a8 a9 a10 a11 a12 := by
  intro d
  induction d with
  | zero =>
    intro k a10 hk h
    have e : k = s := by omega
    rw [e] at h
    exact pk_le s k (fun _ => ⟨pk_in j 256 (by omega), nm_r (e' := upd a10 j 1) (by rw [nI_clamp (by omega)]) (nm_e ⟨257, tm_42 hc hs h7 h8 H 256 0 1 _ _ (by omega) (tm_S_1 hj h)⟩)⟩) (fun z => absurd z (by omega))
  | succ d ih =>
    intro k a10 hk h
    refine pk_le s k (fun z => absurd z (by omega)) (fun _ => ⟨pk_in k 256 (by omega), nm_r (e' := upd a10 k 0) (by rw [nI_clamp (by omega)]) (nm_r (nI_1 k) (ih (k + 1) _ (by omega) (fun i hi => ?_)))⟩)
    by_cases q : i = k
    · rw [q, pk_us]
    · rw [pk_un q]
      exact h i (by omega)
theorem tm_spread {post : Int32 → St2 → Prop} {x1 y : Int32} {c s : Nat}
    (hc : c ≤ 4) (hs : s ≤ 256) (hy : tm_V s y) (h7 : tm_F c s a7 (4 * s)) (h8 : tm_F c s a8 (4 * s))
    (H : ∀ (r : Int32) (a10 a12 : Nat → Int32), post r (f0, f1, nI c, nI s, f4, a1, a2, a3, a4, a5, a6, a7, a8, a9, a10, a11, a12)) :
    wpX_spread post (f0, f1, nI c, nI s, f4, a1, a2, a3, a4, a5, a6, a7, a8, a9, a10, a11, a12) x1 y := by
  obtain ⟨j, hj, rfl⟩ := hy
  unfold wpX_spread
  exact ⟨s + 1, tm_2 hc hs hj h7 h8 H s 0 a10 (by omega) (fun i hi => absurd hi (by omega))⟩
end
end
section
section
variable {f0 f1 f2 f3 f4 : Int32} {a1 a2 a3 a4 a5 a6 a7 a8 a9 a10 a11 a12 : Nat → Int32}
/-- has(unit) of a state that has changed -/
theorem tm_has0 {post : Int32 → St2 → Prop} {n c : Nat} {x : Int32} (hN : tm_N n) (hc : c ≤ 4) (hG : tm_G n c a1) (hx : x = nI (tm_un n))
    (H : ∀ (s : Nat) (a2 a3 a4 a5 a6 a7 a8 : Nat → Int32), tm_D n c s a1 a2 a7 a8 → post 1 (nI n, nI (n ^ n), nI c, nI s, 1, a1, a2, a3, a4, a5, a6, a7, a8, a9, a10, a11, a12)) :
    wpX_has post (nI n, nI (n ^ n), nI c, f3, 0, a1, a2, a3, a4, a5, a6, a7, a8, a9, a10, a11, a12) x := by
  have b := tm_bd hN
  subst hx
  unfold wpX_has
  refine tm_isT (by omega) b.2.2.1 rfl (br_f (by decide) (tm_refresh0 hN hc hG (fun s b2 b3 b4 b5 b6 b7 b8 hD => ⟨pk_in (tm_un n) 256 (by omega), br_f ?_ (H s b2 b3 b4 b5 b6 b7 b8 hD)⟩)))
  rw [nI_clamp (by omega)]
  exact tm_V_ne (by have := hD.2.1; omega) hD.2.2.1
/-- has(k) of a refreshed state, k numbered -/
theorem tm_has1 {post : Int32 → St2 → Prop} {m k : Nat} {x : Int32} (hm : m ≤ 256) (hk : k < m) (hx : x = nI k) (e : ¬ a2 k = -1)
    (H : post 1 (f0, nI m, f2, f3, 1, a1, a2, a3, a4, a5, a6, a7, a8, a9, a10, a11, a12)) :
    wpX_has post (f0, nI m, f2, f3, 1, a1, a2, a3, a4, a5, a6, a7, a8, a9, a10, a11, a12) x := by
  subst hx
  unfold wpX_has
  exact tm_isT (by omega) hk rfl (br_f (by decide) (tm_refresh1 ⟨pk_in k 256 (by omega), br_f (by rw [nI_clamp (by omega)]; exact e) H⟩))
theorem tm_hasF {post : Int32 → St2 → Prop} {m : Nat} {x : Int32} (hx : x < 0 ∨ nI m ≤ x)
    (H : post (-1) (f0, nI m, f2, f3, f4, a1, a2, a3, a4, a5, a6, a7, a8, a9, a10, a11, a12)) :
    wpX_has post (f0, nI m, f2, f3, f4, a1, a2, a3, a4, a5, a6, a7, a8, a9, a10, a11, a12) x := by
  unfold wpX_has
  exact tm_isF hx (br_t rfl H)
theorem tm_elem {post : Int32 → St2 → Prop} {m k : Nat} (hm : m ≤ 256) (hk : k < m) (e : ¬ a2 k = -1)
    (H : post 1 (f0, nI m, f2, f3, 1, a1, a2, a3, a4, a5, a6, a7, a8, a9, a10, a11, a12)) :
    wpX_isElement post (f0, nI m, f2, f3, 1, a1, a2, a3, a4, a5, a6, a7, a8, a9, a10, a11, a12) (nI k) := by
  unfold wpX_isElement
  exact tm_isT (by omega) hk rfl (br_f (by decide) (tm_refresh1 ⟨pk_in k 256 (by omega), br_f (by rw [nI_clamp (by omega)]; exact e) H⟩))
/-- alike(kind, unit, unit) of a refreshed state: -1 just where the kind is none -/
theorem tm_alike {post : Int32 → St2 → Prop} {n c s : Nat} {x y : Int32} (hN : tm_N n) (hc : c ≤ 4) (hD : tm_D n c s a1 a2 a7 a8) (hy : y = nI (tm_un n))
    (H1 : x < 0 ∨ ¬ x ≤ 2 → post (-1) (nI n, nI (n ^ n), nI c, nI s, 1, a1, a2, a3, a4, a5, a6, a7, a8, a9, a10, a11, a12))
    (H0 : ∀ (r : Int32) (a10 a12 : Nat → Int32), ¬ x < 0 → x ≤ 2 → ¬ r = -1 → post r (nI n, nI (n ^ n), nI c, nI s, 1, a1, a2, a3, a4, a5, a6, a7, a8, a9, a10, a11, a12)) :
    wpX_alike post (nI n, nI (n ^ n), nI c, nI s, 1, a1, a2, a3, a4, a5, a6, a7, a8, a9, a10, a11, a12) x y y := by
  have b := tm_bd hN
  subst hy
  obtain ⟨d1, d2, d3, d4, d5, d6⟩ := hD
  have ne : ¬ a2 (tm_un n) = -1 := tm_V_ne (by omega) d3
  have cu : (nI (tm_un n)).toNatClampNeg = tm_un n := nI_clamp (by omega)
  have v : tm_V s (a2 (nI (tm_un n)).toNatClampNeg) := by
    rw [cu]
    exact d3
  have hv : vp_in (a2 (nI (tm_un n)).toNatClampNeg) 256 := by
    obtain ⟨j, hj, ej⟩ := v
    exact pk_in j 256 (by omega) ej
  have hu : vp_in (nI (tm_un n)) 256 := pk_in (tm_un n) 256 (by omega)
  unfold wpX_alike
  refine br_c (fun q => H1 (Or.inl q)) (fun q0 => br_c (fun q2 => ?_) (fun q => H1 (Or.inr q)))
  refine tm_elem b.2.1 b.2.2.1 ne (br_f (by decide) (tm_elem b.2.1 b.2.2.1 ne (br_f (by decide) ⟨hu, tm_spread hc d2 v d5 d6 (fun r b10 b12 => ⟨hu, hv, nm_e ⟨hu, tm_spread hc d2 v d5 d6 (fun r' c10 c12 => ?_)⟩⟩)⟩)))
  exact br_c (fun _ => H0 0 c10 c12 q0 q2 (by decide)) (fun _ => ⟨hu, hv, br_c (fun _ => H0 0 c10 c12 q0 q2 (by decide)) (fun _ => H0 1 c10 c12 q0 q2 (by decide))⟩)
/-- generate(k), a code, of a new state -/
theorem tm_genT {post : Int32 → St2 → Prop} {m k : Nat} {x : Int32} (hm : m ≤ 256) (hk : k < m) (hx : x = nI k)
    (H : post 0 (f0, nI m, nI 1, f3, 0, upd a1 0 (nI k), a2, a3, a4, a5, a6, a7, a8, a9, a10, a11, a12)) :
    wpX_generate post (f0, nI m, nI 0, f3, f4, a1, a2, a3, a4, a5, a6, a7, a8, a9, a10, a11, a12) x := by
  subst hx
  unfold wpX_generate
  exact tm_isT (by omega) hk rfl (br_f (by decide) (br_f (by decide) ⟨pk_in 0 4 (by omega), nm_r (e' := upd a1 0 (nI k)) rfl (nm_r (e' := nI 1) rfl H)⟩))
theorem tm_genF {post : Int32 → St2 → Prop} {m : Nat} {x : Int32} (hx : x < 0 ∨ nI m ≤ x)
    (H : post (-1) (f0, nI m, f2, f3, f4, a1, a2, a3, a4, a5, a6, a7, a8, a9, a10, a11, a12)) :
    wpX_generate post (f0, nI m, f2, f3, f4, a1, a2, a3, a4, a5, a6, a7, a8, a9, a10, a11, a12) x := by
  unfold wpX_generate
  exact tm_isF hx (br_t rfl H)
/-- the constructor's product -/
theorem tm_144 {post : St2 → Prop} {mc ms kc ks n : Nat} (hn : n ≤ 4)
    (H : post (nI n, nI (n ^ n), f2, f3, f4, a1, a2, a3, a4, a5, a6, a7, a8, a9, a10, a11, a12)) :
    ∀ d i : Nat, i + d = n → wX_init_144 post mc ms kc ks (nI n) f2 f3 f4 a1 a2 a3 a4 a5 a6 a7 a8 a9 a10 a11 a12 (d + 1) (nI i) (nI (n ^ i)) := by
  intro d
  induction d with
  | zero =>
    intro i hi
    have e : i = n := by omega
    rw [e]
    exact pk_le n n (fun _ => H) (fun z => absurd z (by omega))
  | succ d ih =>
    intro i hi
    exact pk_le n i (fun z => absurd z (by omega)) (fun _ => nm_r (e' := nI (n ^ (i + 1))) (pk_mul (n ^ i) n) (nm_r (nI_1 i) (ih (i + 1) (by omega))))
end
end
section
/-- what stands behind generate: no code and no generator, or a code that is the first generator -/
def tm_Q (n c : Nat) (x1 x8 : Int32) (a1 : Nat → Int32) : Prop := (x8 = 0 ∧ (x1 < 0 ∨ nI (n ^ n) ≤ x1)) ∨ (x8 = 1 ∧ ∃ k : Nat, k < n ^ n ∧ x1 = nI k ∧ 0 < c ∧ a1 0 = nI k)
theorem tm_gc {m : Nat} {x : Int32} (hm : m < 2 ^ 31) (h0 : ¬ x < 0) (h : ¬ nI m ≤ x) : tm_V m x := by
  rcases pk_ix x hm with q | q | q
  · exact absurd q h0
  · exact absurd q h
  · exact q
theorem tm_clamp (x : Int32) : ¬ 2 ≤ x ∨ (2 ≤ x ∧ ¬ x ≤ 4) ∨ (2 ≤ x ∧ x ≤ 4 ∧ ∃ n : Nat, tm_N n ∧ x = nI n) := by
  by_cases h2 : (2 : Int32) ≤ x
  · by_cases h4 : x ≤ 4
    · refine Or.inr (Or.inr ⟨h2, h4, ?_⟩)
      rw [Int32.le_iff_toInt_le] at h2 h4
      have e0 : (0 : Int32).toInt = 0 := by decide
      have e2 : (2 : Int32).toInt = 2 := by decide
      have e4 : (4 : Int32).toInt = 4 := by decide
      have e5 : (nI 5).toInt = 5 := by decide
      rcases pk_ix x (n := 5) (by omega) with q | q | ⟨j, hj, q⟩
      · rw [Int32.lt_iff_toInt_lt] at q
        omega
      · rw [Int32.le_iff_toInt_le] at q
        omega
      · have ej : x.toInt = (j : Int) := by
          rw [q]
          exact nI_toInt (by omega)
        have : j = 2 ∨ j = 3 ∨ j = 4 := by omega
        exact ⟨j, this, q⟩
    · exact Or.inr (Or.inl ⟨h2, h4⟩)
  · exact Or.inl h2
section
variable {post : Int32 → St0 → Prop} {mc ms kc ks : Nat} {x1 x2 x3 x4 : Int32} {f0 f1 f2 f3 f4 : Int32} {a1 a2 a3 a4 a5 a6 a7 a8 a9 a10 a11 a12 : Nat → Int32}
theorem tm_271a (hp : post 1 ()) (h : x4 < 0 ∨ ¬ x4 ≤ 2) : wL_lawOf_271 post mc ms x4 1 kc ks := by
  have t : wL_lawOf_282 post mc ms 1 kc ks := by
    unfold wL_lawOf_282 wL_lawOf_287
    exact br_t rfl hp
  unfold wL_lawOf_271
  exact br_c (fun _ => t) (fun q => br_f (h.resolve_left q) t)
theorem tm_271b (hp : post 1 ()) (h0 : ¬ x4 < 0) (h2 : x4 ≤ 2) : wL_lawOf_271 post mc ms x4 0 kc ks := by
  unfold wL_lawOf_271 wL_lawOf_287
  exact br_f h0 (br_t h2 (br_t rfl hp))
theorem tm_246 {n c s : Nat} {z : Int32} (hp : post 1 ()) (hN : tm_N n) (hc : c ≤ 4) (hD : tm_D n c s a1 a2 a7 a8) :
    wL_lawOf_246 post mc ms x4 (nI (tm_un n)) z z kc ks (nI n) (nI (n ^ n)) (nI c) (nI s) 1 a1 a2 a3 a4 a5 a6 a7 a8 a9 a10 a11 a12 := by
  unfold wL_lawOf_246
  exact br_t rfl (tm_alike hN hc hD rfl (fun q => br_t rfl (tm_271a hp q)) (fun r b10 b12 q0 q2 ne => br_f ne (tm_271b hp q0 q2)))
theorem tm_219 {n c : Nat} {x8 : Int32} (hp : post 1 ()) (hN : tm_N n) (hc : c ≤ 4) (hG : tm_G n c a1) (hQ : tm_Q n c x1 x8 a1) :
    wL_lawOf_219 post mc ms x1 x4 x8 (nI (tm_un n)) kc ks (nI n) (nI (n ^ n)) (nI c) f3 0 a1 a2 a3 a4 a5 a6 a7 a8 a9 a10 a11 a12 := by
  have b := tm_bd hN
  unfold wL_lawOf_219
  refine tm_has0 hN hc hG rfl (fun s b2 b3 b4 b5 b6 b7 b8 hD => br_t rfl ?_)
  rcases hQ with ⟨e, q⟩ | ⟨e, k, hk, ek, h0, hk0⟩
  · exact tm_hasF q (br_t e (tm_246 hp hN hc hD))
  · exact tm_has1 b.2.1 hk ek (hD.2.2.2.1 0 k h0 hk hk0) (br_f (by rw [e]; decide) (tm_246 hp hN hc hD))
theorem tm_156F {n c : Nat} {x7 x8 : Int32} (hp : post 1 ()) (hN : tm_N n) (hc : c ≤ 4) (hG : tm_G n c a1) (hQ : tm_Q n c x1 x8 a1) (h : (x2 < 0 ∨ nI (n ^ n) ≤ x2) ∨ (x3 < 0 ∨ nI (n ^ n) ≤ x3)) :
    wL_lawOf_156 post mc ms x1 x2 x3 x4 x7 x8 0 (nI (tm_un n)) kc ks (nI n) (nI (n ^ n)) (nI c) f3 0 a1 a2 a3 a4 a5 a6 a7 a8 a9 a10 a11 a12 := by
  have b := tm_bd hN
  unfold wL_lawOf_156
  exact tm_prodF (by omega) h (br_t rfl (br_t rfl (tm_219 hp hN hc hG hQ)))
theorem tm_156T {n c f g : Nat} {x8 : Int32} (hp : post 1 ()) (hN : tm_N n) (hc : c ≤ 4) (hG : tm_G n c a1) (hQ : tm_Q n c x1 x8 a1) (hf : f < n ^ n) (ef : x2 = nI f) (hg : g < n ^ n) (eg : x3 = nI g) :
    wL_lawOf_156 post mc ms x1 x2 x3 x4 (nI (n ^ n)) x8 1 (nI (tm_un n)) kc ks (nI n) (nI (n ^ n)) (nI c) f3 0 a1 a2 a3 a4 a5 a6 a7 a8 a9 a10 a11 a12 := by
  have b := tm_bd hN
  have hk := tm_co_lt (n := n) (by omega) f g n
  have t : wL_lawOf_219 post mc ms x1 x4 x8 (nI (tm_un n)) kc ks (nI n) (nI (n ^ n)) (nI c) f3 0 a1 a2 a3 a4 a5 a6 a7 a8 a9 a10 a11 a12 := tm_219 hp hN hc hG hQ
  have t' : wL_lawOf_196 post mc ms x1 x2 x3 x4 x8 (nI (tm_un n)) (nI (tm_co n f g n)) kc ks (nI n) (nI (n ^ n)) (nI c) f3 0 a1 a2 a3 a4 a5 a6 a7 a8 a9 a10 a11 a12 := by
    unfold wL_lawOf_196
    refine br_c (fun e => br_t ?_ t) (fun _ => t)
    rw [ef] at e
    have e' : f = tm_un n := (nI_eq (by omega) (by omega)).mp e
    rw [e', (tm_unit hN hg).2, eg]
  unfold wL_lawOf_156
  refine tm_prodT hN hf hg ef eg (br_f (by decide) (br_f (nI_pos (by omega)) (br_f (nI_ge hk (by omega)) (br_c (fun e => br_t ?_ t') (fun _ => t')))))
  rw [eg] at e
  have e' : g = tm_un n := (nI_eq (by omega) (by omega)).mp e
  rw [e', (tm_unit hN hf).1, ef]
theorem tm_132 {n : Nat} {x7 x8 z0 : Int32} (hN : tm_N n)
    (H : wL_lawOf_156 post mc ms x1 x2 x3 x4 x7 x8 z0 (nI (tm_un n)) kc ks f0 f1 f2 f3 f4 a1 a2 a3 a4 a5 a6 a7 a8 a9 a10 a11 a12) :
    wL_lawOf_132 post mc ms x1 x2 x3 x4 (nI n) x7 x8 z0 kc ks f0 f1 f2 f3 f4 a1 a2 a3 a4 a5 a6 a7 a8 a9 a10 a11 a12 := by
  unfold wL_lawOf_132
  rcases hN with rfl | rfl | rfl
  · rw [show nI (tm_un 2) = 1 by decide] at H
    exact br_t rfl H
  · rw [show nI (tm_un 3) = 5 by decide] at H
    exact br_f (by decide) (br_t rfl H)
  · rw [show nI (tm_un 4) = 27 by decide] at H
    exact br_f (by decide) (br_f (by decide) H)
theorem tm_102 {n c : Nat} {x8 z : Int32} (hp : post 1 ()) (hN : tm_N n) (hc : c ≤ 4) (hG : tm_G n c a1) (hQ : tm_Q n c x1 x8 a1) :
    wL_lawOf_102 post mc ms x1 x2 x3 x4 (nI n) (nI (n ^ n)) x8 z z kc ks (nI n) (nI (n ^ n)) (nI c) f3 0 a1 a2 a3 a4 a5 a6 a7 a8 a9 a10 a11 a12 := by
  have b := tm_bd hN
  have F : (x2 < 0 ∨ nI (n ^ n) ≤ x2) ∨ (x3 < 0 ∨ nI (n ^ n) ≤ x3) → wL_lawOf_131 post mc ms x1 x2 x3 x4 (nI n) (nI (n ^ n)) x8 kc ks (nI n) (nI (n ^ n)) (nI c) f3 0 a1 a2 a3 a4 a5 a6 a7 a8 a9 a10 a11 a12 := by
    intro h
    unfold wL_lawOf_131
    exact tm_132 hN (tm_156F hp hN hc hG hQ h)
  unfold wL_lawOf_102
  refine br_t rfl (br_c (fun q => F (Or.inl (Or.inl q))) (fun q1 => br_c (fun q => F (Or.inl (Or.inr q))) (fun q2 => br_c (fun q => F (Or.inr (Or.inl q))) (fun q3 => br_c (fun q => F (Or.inr (Or.inr q))) (fun q4 => ?_)))))
  obtain ⟨f, hf, ef⟩ := tm_gc (by omega) q1 q2
  obtain ⟨g, hg, eg⟩ := tm_gc (by omega) q3 q4
  exact tm_132 hN (tm_156T hp hN hc hG hQ hf ef hg eg)
theorem tm_55 {n : Nat} {z0 : Int32} (hp : post 1 ()) (hN : tm_N n) (hz : z0 = nI (n ^ n)) :
    wL_lawOf_55 post mc ms x1 x2 x3 x4 (nI n) z0 kc ks (nI n) (nI (n ^ n)) (nI 0) f3 0 a1 a2 a3 a4 a5 a6 a7 a8 a9 a10 a11 a12 := by
  have b := tm_bd hN
  subst hz
  have F : (x1 < 0 ∨ nI (n ^ n) ≤ x1) → wL_lawOf_83 post mc ms x1 x2 x3 x4 (nI n) (nI (n ^ n)) kc ks (nI n) (nI (n ^ n)) (nI 0) f3 0 a1 a2 a3 a4 a5 a6 a7 a8 a9 a10 a11 a12 := by
    intro h
    unfold wL_lawOf_83 wL_lawOf_84
    exact tm_genF h (br_t rfl (tm_102 hp hN (by omega) (fun g hg => absurd hg (by omega)) (Or.inl ⟨rfl, h⟩)))
  unfold wL_lawOf_55 wpX_points
  refine br_t rfl (br_c (fun q => F (Or.inl q)) (fun q1 => br_c (fun q => F (Or.inr q)) (fun q2 => ?_)))
  obtain ⟨k, hk, ek⟩ := tm_gc (by omega) q1 q2
  unfold wL_lawOf_84
  refine tm_genT b.2.1 hk ek (br_f (by decide) (tm_102 hp hN (by omega) (fun g hg => ?_) (Or.inr ⟨rfl, k, hk, ek, by omega, pk_us⟩)))
  rw [show g = 0 by omega, pk_us]
  exact ⟨k, hk, rfl⟩
theorem tm_29 {n : Nat} {y : Int32} (hp : post 1 ()) (hN : tm_N n) (hy : y = nI n) :
    wL_lawOf_29 post mc ms x1 x2 x3 x4 y kc ks (nI n) (nI (n ^ n)) (nI 0) f3 0 a1 a2 a3 a4 a5 a6 a7 a8 a9 a10 a11 a12 := by
  subst hy
  have t : ∀ z0 : Int32, z0 = nI (n ^ n) → wL_lawOf_55 post mc ms x1 x2 x3 x4 (nI n) z0 kc ks (nI n) (nI (n ^ n)) (nI 0) f3 0 a1 a2 a3 a4 a5 a6 a7 a8 a9 a10 a11 a12 := fun z0 e => tm_55 hp hN e
  unfold wL_lawOf_29
  rcases hN with rfl | rfl | rfl
  · exact br_t rfl (t 4 (by decide))
  · exact br_f (by decide) (br_t rfl (t 27 (by decide)))
  · exact br_f (by decide) (br_f (by decide) (t 256 (by decide)))
end
/-- the constructor -/
theorem tm_init {post : St2 → Prop} {p0 : Int32} {n : Nat} (hN : tm_N n) (h : (¬ 2 ≤ p0 ∧ n = 2) ∨ (2 ≤ p0 ∧ ¬ p0 ≤ 4 ∧ n = 4) ∨ (2 ≤ p0 ∧ p0 ≤ 4 ∧ p0 = nI n))
    (H : post (nI n, nI (n ^ n), nI 0, 0, 0, (fun _ => 0), (fun _ => 0), (fun _ => 0), (fun _ => 0), (fun _ => 0), (fun _ => 0), (fun _ => 0), (fun _ => 0), (fun _ => 0), (fun _ => 0), (fun _ => 0), (fun _ => 0))) :
    wpX_init post 12 4356 (0, 0, 0, 0, 0) p0 := by
  have b := tm_bd hN
  have t := tm_144 (mc := 12) (ms := 4356) (kc := 12) (ks := 4356) b.2.2.2.2 H n 0 (by omega)
  unfold wpX_init
  refine ⟨by decide, by decide, by decide, by decide, by decide, by decide, by decide, by decide, by decide, by decide, by decide, by decide, by decide, by decide, by decide, by decide, by decide, by decide, by decide, by decide, by decide, by decide, by decide, by decide, ?_⟩
  rcases h with ⟨q, rfl⟩ | ⟨q, q4, rfl⟩ | ⟨q, q4, e⟩
  · refine br_f q ?_
    unfold wX_init_121
    exact br_t (by decide) ⟨_, t⟩
  · refine br_t q ?_
    unfold wX_init_121
    exact br_f q4 ⟨_, t⟩
  · refine br_t q ?_
    unfold wX_init_121
    refine br_t q4 ⟨n + 1, ?_⟩
    rw [e]
    exact t
theorem tm_lawOf {post : Int32 → St0 → Prop} (hp : post 1 ()) (p0 p1 p2 p3 p4 : Int32) : wpL_lawOf post 13 4373 () p0 p1 p2 p3 p4 := by
  unfold wpL_lawOf
  refine ⟨by decide, by decide, 12, 4356, by decide, by decide, ?_⟩
  rcases tm_clamp p0 with q | ⟨q, q4⟩ | ⟨q, q4, n, hN, e⟩
  · exact tm_init (n := 2) (Or.inl rfl) (Or.inl ⟨q, rfl⟩) (br_f q (tm_29 (n := 2) hp (Or.inl rfl) rfl))
  · exact tm_init (n := 4) (Or.inr (Or.inr rfl)) (Or.inr (Or.inl ⟨q, q4, rfl⟩)) (br_t q (br_f q4 (tm_29 (n := 4) hp (Or.inr (Or.inr rfl)) rfl)))
  · exact tm_init hN (Or.inr (Or.inr ⟨q, q4, e⟩)) (br_t q (br_t q4 (tm_29 hp hN e)))
theorem tm_cell {post : Int32 → Prop} {xs : Nat → Int32} {L i : Nat} {x : Int32} (hL : L ≤ 5) (hi : i < 5) (hx : x = nI i) (H : ∀ v : Int32, post v) : wpL_cellAt post L xs () x := by
  unfold wpL_cellAt
  exact pk_le L i (fun _ => H 0) (fun z => ⟨pk_in i L z hx, H _⟩) rfl hx
end
section
theorem i_vc (xs : Nat → Int32) (L : Nat) (hL : L ≤ 5) : wpL_law (fun r => r = 1) L xs := by
  unfold wpL_law
  exact tm_cell (i := 0) hL (by omega) rfl (fun p0 => tm_cell (i := 1) hL (by omega) rfl (fun p1 => tm_cell (i := 2) hL (by omega) rfl (fun p2 => tm_cell (i := 3) hL (by omega) rfl (fun p3 => tm_cell (i := 4) hL (by omega) rfl (fun p4 => ⟨13, 4373, by decide, by decide, tm_lawOf rfl p0 p1 p2 p3 p4⟩)))))
end
