section
/-! an Int as an Int32: sums and products go through, comparisons want bounds -/
def bk_I (z : Int) : Int32 := Int32.ofInt z
theorem bk_add (a b : Int) : bk_I a + bk_I b = bk_I (a + b) := (Int32.ofInt_add a b).symm
theorem bk_sub (a b : Int) : bk_I a - bk_I b = bk_I (a - b) := (Int32.ofInt_sub a b).symm
theorem bk_mul (a b : Int) : bk_I a * bk_I b = bk_I (a * b) := (Int32.ofInt_mul a b).symm
theorem bk_neg (a : Int) : -bk_I a = bk_I (-a) := (Int32.ofInt_neg a).symm
theorem bk_nI (n : Nat) : nI n = bk_I (n : Int) := Int32.ofInt_eq_ofNat.symm
theorem bk_t {a : Int} (h1 : -2147483648 ≤ a) (h2 : a < 2147483648) : (bk_I a).toInt = a := Int32.toInt_ofInt_of_le (by omega) (by omega)
theorem bk_of (x : Int32) : x = bk_I x.toInt := (Int32.ofInt_toInt x).symm
theorem bk_rng (x : Int32) : -2147483648 ≤ x.toInt ∧ x.toInt < 2147483648 := by
  have h1 := Int32.le_toInt x
  have h2 := Int32.toInt_lt x
  omega
theorem bk_leI {a b : Int} (ha : -2147483648 ≤ a ∧ a < 2147483648) (hb : -2147483648 ≤ b ∧ b < 2147483648) : bk_I a ≤ bk_I b ↔ a ≤ b := by
  rw [Int32.le_iff_toInt_le, bk_t ha.1 ha.2, bk_t hb.1 hb.2]
theorem bk_ltI {a b : Int} (ha : -2147483648 ≤ a ∧ a < 2147483648) (hb : -2147483648 ≤ b ∧ b < 2147483648) : bk_I a < bk_I b ↔ a < b := by
  rw [Int32.lt_iff_toInt_lt, bk_t ha.1 ha.2, bk_t hb.1 hb.2]
theorem bk_eqI {a b : Int} (ha : -2147483648 ≤ a ∧ a < 2147483648) (hb : -2147483648 ≤ b ∧ b < 2147483648) : bk_I a = bk_I b ↔ a = b := by
  rw [← Int32.toInt_inj, bk_t ha.1 ha.2, bk_t hb.1 hb.2]
/-! a branch by the Ints behind it -/
theorem bk_le {x y : Int32} {A B : Prop} (a b : Int) (hx : x = bk_I a) (hy : y = bk_I b) (ha : -2147483648 ≤ a ∧ a < 2147483648) (hb : -2147483648 ≤ b ∧ b < 2147483648) (f : a ≤ b → A) (g : b < a → B) : (x ≤ y → A) ∧ (¬ x ≤ y → B) := by
  subst hx hy
  rw [bk_leI ha hb]
  exact ⟨f, fun z => g (by omega)⟩
theorem bk_lt {x y : Int32} {A B : Prop} (a b : Int) (hx : x = bk_I a) (hy : y = bk_I b) (ha : -2147483648 ≤ a ∧ a < 2147483648) (hb : -2147483648 ≤ b ∧ b < 2147483648) (f : a < b → A) (g : b ≤ a → B) : (x < y → A) ∧ (¬ x < y → B) := by
  subst hx hy
  rw [bk_ltI ha hb]
  exact ⟨f, fun z => g (by omega)⟩
theorem bk_eq {x y : Int32} {A B : Prop} (a b : Int) (hx : x = bk_I a) (hy : y = bk_I b) (ha : -2147483648 ≤ a ∧ a < 2147483648) (hb : -2147483648 ≤ b ∧ b < 2147483648) (f : a = b → A) (g : a ≠ b → B) : (x = y → A) ∧ (¬ x = y → B) := by
  subst hx hy
  rw [bk_eqI ha hb]
  exact ⟨f, g⟩
/-! shifts -/
theorem bk_s : ∀ n, n < 32 → ((nI n &&& 31).toBitVec.smod 32).toNat = n := by decide +kernel
theorem bk_t1 : ∀ h, h < 7 → (2 : Int32) <<< (nI h &&& 31) = nI (2 * 2 ^ h) ∧ (1 : Int32) <<< (nI h &&& 31) = nI (2 ^ h) := by decide +kernel
theorem bk_t2 : ∀ a, a < 48 → ∀ h, h < 6 → ((nI a >>> (nI h &&& 31)) &&& 1 = 0 ↔ a / 2 ^ h % 2 = 0) := by decide +kernel
theorem bk_t3 : ∀ a, a < 48 → ∀ h, h < 7 → (64 + nI a) >>> (nI h &&& 31) = nI ((64 + a) / 2 ^ h) := by decide +kernel
theorem bk_shl (x : Int32) {h : Nat} (hh : h < 7) : x <<< (nI h &&& 31) = x * nI (2 ^ h) := by
  have hp : 2 ^ h < 2 ^ 32 := Nat.pow_lt_pow_right (by omega) (by omega)
  apply Int32.toBitVec_inj.mp
  apply BitVec.eq_of_toNat_eq
  rw [pk_shl _ _ h (bk_s h (by omega)), Int32.toBitVec_mul, BitVec.toNat_mul, pk_tn hp]
theorem bk_shr1 {n : Nat} (h : n < 2 ^ 31) : nI n >>> ((1 : Int32) &&& 31) = nI (n / 2) := pk_shrN h _ 1 (by decide)
/-! the tree: node n stands over the days st n .. st n + wi n - 1 -/
def bk_wi (n : Nat) : Nat := if n < 2 then 64 else if n < 4 then 32 else if n < 8 then 16 else if n < 16 then 8 else if n < 32 then 4 else if n < 64 then 2 else 1
def bk_st (n : Nat) : Nat := n * bk_wi n - 64
theorem bk_kid : ∀ n, n < 64 → 1 ≤ n → bk_wi n = bk_wi (2 * n) + bk_wi (2 * n) ∧ bk_wi (2 * n + 1) = bk_wi (2 * n) ∧ bk_st (2 * n) = bk_st n ∧ bk_st (2 * n + 1) = bk_st n + bk_wi (2 * n) := by decide +kernel
theorem bk_nin : ∀ n, n < 128 → 1 ≤ n → bk_st n + bk_wi n ≤ 64 ∧ 1 ≤ bk_wi n := by decide +kernel
theorem bk_leaf : ∀ n, n < 128 → 64 ≤ n → bk_wi n = 1 ∧ bk_st n = n - 64 := by decide +kernel
/-- what an entry's way up meets -/
theorem bk_up5 : ∀ d, d < 48 → ∀ i, i < 6 → 1 ≤ (64 + d) / 2 ^ (i + 1) ∧ (64 + d) / 2 ^ (i + 1) < 64 ∧ bk_wi (2 * ((64 + d) / 2 ^ (i + 1))) = 2 ^ i ∧ (64 + d) / 2 ^ i ≤ 2 * ((64 + d) / 2 ^ (i + 1)) + 1 ∧ ((64 + d) / 2 ^ i ≤ 2 * ((64 + d) / 2 ^ (i + 1)) ∨ bk_st (2 * ((64 + d) / 2 ^ (i + 1))) + bk_wi (2 * ((64 + d) / 2 ^ (i + 1))) ≤ d) ∧ (64 + d) / 2 ^ i / 2 = (64 + d) / 2 ^ (i + 1) := by decide +kernel
theorem bk_up6t : ∀ d, d < 48 → ∀ i, i < 6 → ∀ n, n < 128 → (n ≤ (64 + d) / 2 ^ (i + 1) ∨ (64 + d) / 2 ^ i ≤ n ∨ d < bk_st n ∨ bk_st n + bk_wi n ≤ d) := by decide +kernel
theorem bk_up6 (d : Nat) (hd : d < 48) (i : Nat) (hi : i < 6) (n : Nat) (hn : n < 128) (h1 : (64 + d) / 2 ^ (i + 1) < n) (h2 : n < (64 + d) / 2 ^ i) : d < bk_st n ∨ bk_st n + bk_wi n ≤ d := by
  rcases bk_up6t d hd i hi n hn with h | h | h
  · exact absurd h (Nat.not_le_of_lt h1)
  · exact absurd h (Nat.not_le_of_lt h2)
  · exact h
/-- the widest node that begins at day a and ends at or ahead of l -/
def bk_wdf (a l : Nat) : Nat → Nat → Nat
  | 0, h => h
  | f + 1, h => if a / 2 ^ h % 2 = 0 ∧ a + 2 * 2 ^ h ≤ l then bk_wdf a l f (h + 1) else h
def bk_wd (a l : Nat) : Nat := bk_wdf a l 6 0
theorem bk_wdo : ∀ a, a < 48 → ∀ l, l < 49 → a < l → bk_wd a l < 7 ∧ a + 2 ^ bk_wd a l ≤ l ∧ bk_wi ((64 + a) / 2 ^ bk_wd a l) = 2 ^ bk_wd a l ∧ bk_st ((64 + a) / 2 ^ bk_wd a l) = a ∧ 1 ≤ (64 + a) / 2 ^ bk_wd a l ∧ (64 + a) / 2 ^ bk_wd a l < 128 := by decide +kernel
/-- where f steps of a walk lead -/
def bk_it (l : Nat) : Nat → Nat → Nat
  | 0, a => a
  | f + 1, a => if l ≤ a then a else bk_it l f (a + 2 ^ bk_wd a l)
theorem bk_ito : ∀ l, l < 49 → ∀ a, a < 49 → l ≤ bk_it l 14 a := by decide +kernel
end
section
/-! the picture: P k is the balance behind k days (P 0 = 0); a node keeps its change, its least running sum, its sum of running sums -/
def bk_mn (v : Int) (P : Nat → Int) (s w : Nat) : Prop := (∀ k, s < k → k ≤ s + w → v ≤ P k - P s) ∧ ∃ k, s < k ∧ k ≤ s + w ∧ v = P k - P s
def bk_ar (P : Nat → Int) (s : Nat) : Nat → Int
  | 0 => 0
  | w + 1 => bk_ar P s w + (P (s + w + 1) - P s)
def bk_nd (c l a : Nat → Int32) (i : Nat) (P : Nat → Int) (s w : Nat) : Prop := c i = bk_I (P (s + w) - P s) ∧ (∃ v, l i = bk_I v ∧ bk_mn v P s w) ∧ a i = bk_I (bk_ar P s w)
def bk_ok (c l a : Nat → Int32) (b : Nat) (P : Nat → Int) : Prop := ∀ n, 1 ≤ n → n < 128 → bk_nd c l a (b + n) P (bk_st n) (bk_wi n)
def bk_B (P : Nat → Int) : Prop := P 0 = 0 ∧ ∀ k, -20000 ≤ P k ∧ P k ≤ 20000
theorem bk_ar_add (P : Nat → Int) (s a b : Nat) : bk_ar P s (a + b) = bk_ar P s a + bk_ar P (s + a) b + (b : Int) * (P (s + a) - P s) := by
  induction b with
  | zero => show bk_ar P s a = bk_ar P s a + 0 + ((0 : Nat) : Int) * (P (s + a) - P s); omega
  | succ b ih =>
    show bk_ar P s (a + b) + (P (s + (a + b) + 1) - P s) = bk_ar P s a + (bk_ar P (s + a) b + (P (s + a + b + 1) - P (s + a))) + ((b + 1 : Nat) : Int) * (P (s + a) - P s)
    rw [ih, show s + (a + b) + 1 = s + a + b + 1 by omega, show ((b + 1 : Nat) : Int) = (b : Int) + 1 by omega, Int.add_mul, Int.one_mul]
    omega
theorem bk_ar_cg {P Q : Nat → Int} {s w : Nat} (h : ∀ k, k ≤ w → Q (s + k) - Q s = P (s + k) - P s) : bk_ar Q s w = bk_ar P s w := by
  induction w with
  | zero => rfl
  | succ w ih =>
    show bk_ar Q s w + (Q (s + w + 1) - Q s) = bk_ar P s w + (P (s + w + 1) - P s)
    rw [ih (fun k hk => h k (by omega))]
    have := h (w + 1) (Nat.le_refl _)
    rw [show s + (w + 1) = s + w + 1 by omega] at this
    omega
theorem bk_mn_j {v u r : Int} {P : Nat → Int} {s a b : Nat} (h1 : bk_mn v P s a) (h2 : bk_mn u P (s + a) b) (hr : (r = v ∧ v ≤ P (s + a) - P s + u) ∨ (r = P (s + a) - P s + u ∧ P (s + a) - P s + u ≤ v)) : bk_mn r P s (a + b) := by
  obtain ⟨h1a, k1, hk1, hk1', e1⟩ := h1
  obtain ⟨h2a, k2, hk2, hk2', e2⟩ := h2
  refine ⟨fun k h h' => ?_, ?_⟩
  · by_cases hk : k ≤ s + a
    · have := h1a k h hk
      omega
    · have := h2a k (by omega) (by omega)
      omega
  · rcases hr with ⟨e, _⟩ | ⟨e, _⟩
    · exact ⟨k1, hk1, by omega, by omega⟩
    · exact ⟨k2, by omega, by omega, by omega⟩
theorem bk_mn_b {v : Int} {P : Nat → Int} {s w : Nat} (hB : bk_B P) (h : bk_mn v P s w) : -40000 ≤ v ∧ v ≤ 40000 := by
  obtain ⟨_, k, _, _, e⟩ := h
  have h1 := hB.2 k
  have h2 := hB.2 s
  omega
theorem bk_nd_cg {c l a : Nat → Int32} {i : Nat} {P Q : Nat → Int} {s w : Nat} (h : bk_nd c l a i P s w) (hq : ∀ k, k ≤ w → Q (s + k) - Q s = P (s + k) - P s) : bk_nd c l a i Q s w := by
  obtain ⟨h1, ⟨v, hv, m1, k, k1, k2, k3⟩, h3⟩ := h
  have hq' : ∀ k, s ≤ k → k ≤ s + w → Q k - Q s = P k - P s := fun k h h' => by
    have := hq (k - s) (by omega)
    rwa [show s + (k - s) = k by omega] at this
  refine ⟨?_, ⟨v, hv, fun k h h' => ?_, k, k1, k2, ?_⟩, ?_⟩
  · rw [h1, hq w (Nat.le_refl w)]
  · rw [hq' k (by omega) h']
    exact m1 k h h'
  · rw [hq' k (by omega) k2]
    exact k3
  · rw [h3, bk_ar_cg hq]
theorem bk_nd_eq {c l a c' l' a' : Nat → Int32} {i : Nat} {P : Nat → Int} {s w : Nat} (h : bk_nd c l a i P s w) (hc : c' i = c i) (hl : l' i = l i) (ha : a' i = a i) : bk_nd c' l' a' i P s w := by
  unfold bk_nd
  rw [hc, hl, ha]
  exact h
theorem bk_ok_eq {c l a c' l' a' : Nat → Int32} {b : Nat} {P : Nat → Int} (h : bk_ok c l a b P) (hf : ∀ j, b < j → j < b + 128 → c' j = c j ∧ l' j = l j ∧ a' j = a j) : bk_ok c' l' a' b P := fun n h1 h2 =>
  bk_nd_eq (h n h1 h2) (hf (b + n) (by omega) (by omega)).1 (hf (b + n) (by omega) (by omega)).2.1 (hf (b + n) (by omega) (by omega)).2.2
/-- two nodes joined -/
theorem bk_join {c l a c' l' a' : Nat → Int32} {i i1 i2 : Nat} {P : Nat → Int} {s w : Nat} {x : Int32} (hB : bk_B P) (h1 : bk_nd c l a i1 P s w) (h2 : bk_nd c l a i2 P (s + w) w)
    (hc : c' i = c i1 + c i2) (hl : (c i1 + l i2 ≤ l i1 → l' i = c i1 + l i2) ∧ (¬ c i1 + l i2 ≤ l i1 → l' i = l i1)) (ha : a' i = a i1 + a i2 + c i1 * x) (hx : x = nI w) : bk_nd c' l' a' i P s (w + w) := by
  obtain ⟨c1, ⟨v1, l1, m1⟩, a1⟩ := h1
  obtain ⟨c2, ⟨v2, l2, m2⟩, a2⟩ := h2
  have b1 := bk_mn_b hB m1
  have b2 := bk_mn_b hB m2
  have p1 := hB.2 s
  have p2 := hB.2 (s + w)
  rw [c1, l1, l2, bk_add, bk_leI (by omega) (by omega)] at hl
  refine ⟨?_, ?_, ?_⟩
  · rw [hc, c1, c2, bk_add]
    congr 1
    rw [show s + (w + w) = s + w + w by omega]
    omega
  · by_cases hz : P (s + w) - P s + v2 ≤ v1
    · exact ⟨_, hl.1 hz, bk_mn_j m1 m2 (Or.inr ⟨rfl, hz⟩)⟩
    · exact ⟨_, hl.2 hz, bk_mn_j m1 m2 (Or.inl ⟨rfl, by omega⟩)⟩
  · rw [ha, a1, a2, c1, hx, bk_nI, bk_mul, bk_add, bk_add, bk_ar_add P s w w, Int.mul_comm (P (s + w) - P s) (w : Int)]
/-- an entry of x on day d -/
def bk_pt (P : Nat → Int) (d : Nat) (x : Int) : Nat → Int := fun k => P k + (if d < k then x else 0)
theorem bk_pt_lo {P : Nat → Int} {d k : Nat} {x : Int} (h : k ≤ d) : bk_pt P d x k = P k := by
  unfold bk_pt
  rw [if_neg (by omega)]
  omega
theorem bk_pt_hi {P : Nat → Int} {d k : Nat} {x : Int} (h : d < k) : bk_pt P d x k = P k + x := by
  unfold bk_pt
  rw [if_pos h]
theorem bk_pt_out {P : Nat → Int} {d s w : Nat} {x : Int} (h : d < s ∨ s + w ≤ d) : ∀ k, k ≤ w → bk_pt P d x (s + k) - bk_pt P d x s = P (s + k) - P s := by
  intro k hk
  rcases h with h | h
  · rw [bk_pt_hi (by omega), bk_pt_hi h]
    omega
  · rw [bk_pt_lo (by omega), bk_pt_lo (by omega)]
/-- what a walk over the days s .. a - 1 has gathered -/
def bk_W (P : Nat → Int) (s a : Nat) (wc wl wa : Int32) : Prop := s ≤ a ∧ wc = bk_I (P a - P s) ∧ ((a = s ∧ wl = 2147483647) ∨ (s < a ∧ ∃ v, wl = bk_I v ∧ bk_mn v P s (a - s))) ∧ wa = bk_I (bk_ar P s (a - s))
theorem bk_W_0 (P : Nat → Int) (s : Nat) : bk_W P s s 0 2147483647 0 := by
  refine ⟨Nat.le_refl s, ?_, Or.inl ⟨rfl, rfl⟩, ?_⟩
  · rw [show P s - P s = 0 by omega]
    decide
  · rw [show s - s = 0 by omega]
    show 0 = bk_I 0
    decide
theorem bk_W_s {c l a : Nat → Int32} {i : Nat} {P : Nat → Int} {s q w : Nat} {wc wl wa z x : Int32} (hB : bk_B P) (hw : 1 ≤ w) (h : bk_W P s q wc wl wa) (hn : bk_nd c l a i P q w)
    (hz : (wl ≤ wc + l i → z = wl) ∧ (¬ wl ≤ wc + l i → z = wc + l i)) (hx : x = nI w) : bk_W P s (q + w) (wc + c i) z (wa + (a i + wc * x)) := by
  obtain ⟨h0, h1, h2, h3⟩ := h
  obtain ⟨c1, ⟨v1, l1, m1⟩, a1⟩ := hn
  have b1 := bk_mn_b hB m1
  have p1 := hB.2 s
  have p2 := hB.2 q
  rw [h1, l1, bk_add] at hz
  have e : q + w - s = q - s + w := by omega
  have e2 : s + (q - s) = q := by omega
  refine ⟨by omega, ?_, Or.inr ⟨by omega, ?_⟩, ?_⟩
  · rw [h1, c1, bk_add]
    congr 1
    omega
  · rcases h2 with ⟨e1, e3⟩ | ⟨e1, v, hv, m⟩
    · rw [e3, show (2147483647 : Int32) = bk_I 2147483647 by decide, bk_leI (by omega) (by omega)] at hz
      refine ⟨_, hz.2 (by omega), ?_⟩
      rw [e1, show s + w - s = w by omega]
      rw [e1] at m1
      rw [show P s - P s + v1 = v1 by omega]
      exact m1
    · have b2 := bk_mn_b hB m
      rw [hv, bk_leI (by omega) (by omega)] at hz
      rw [← e2] at m1
      rw [e]
      by_cases hc : v ≤ P q - P s + v1
      · exact ⟨_, hz.1 hc, bk_mn_j m m1 (Or.inl ⟨rfl, by rw [e2]; exact hc⟩)⟩
      · exact ⟨_, hz.2 hc, bk_mn_j m m1 (Or.inr ⟨by rw [e2], by rw [e2]; omega⟩)⟩
  · rw [h3, a1, h1, hx, bk_nI, bk_mul, bk_add, bk_add, e, bk_ar_add, e2, Int.mul_comm (P q - P s) (w : Int)]
    congr 1
    omega
end
section
section bk_sec3
variable {f0 f1 f2 f3 f4 f5 f6 : Int32} {a1 a2 a3 a4 a5 a6 a7 a8 a9 : Nat → Int32}
theorem bk_isAcc {post : Int32 → Prop} {x : Int32} {n : Nat} (h : n < 4) (hx : x = nI n) (H : post 1) : wpX_isAccount post () x := by
  subst hx
  exact br_f (nI_pos (by omega)) (br_f (nI_ge h (by decide)) H)
theorem bk_isDay {post : Int32 → Prop} {x : Int32} {n : Nat} (h : n < 48) (hx : x = nI n) (H : post 1) : wpX_isDay post () x := by
  subst hx
  exact br_f (nI_pos (by omega)) (br_f (nI_ge h (by decide)) H)
theorem bk_isStr {post : Int32 → Prop} {x y : Int32} {n m : Nat} (h : n ≤ m) (hm : m < 48) (hx : x = nI n) (hy : y = nI m) (H : post 1) : wpX_isStretch post () x y := by
  subst hx hy
  exact br_f (nI_pos (by omega)) (br_f (nI_nlt h (by omega)) (br_f (nI_ge hm (by decide)) H))
theorem bk_widest {post : Int32 → Prop} {a l : Nat} (ha : a < 48) (hl : l ≤ 48) {x y : Int32} (hx : x = nI a) (hy : y = bk_I ((l : Int) - 1)) (H : post (nI (bk_wd a l))) : wpX_widest post () x y := by
  subst hx hy
  have key : ∀ f h, f + h = 6 → post (nI (bk_wdf a l f h)) → wX_widest_2 post (nI a) (bk_I ((l : Int) - 1)) (f + 1) (nI h) := by
    intro f
    induction f with
    | zero =>
      intro h e H
      exact pk_le 6 h (fun _ => H) (fun z => absurd z (by omega))
    | succ f ih =>
      intro h e H
      have t1 := (bk_t1 h (by omega)).1
      have t2 := bk_t2 a ha h (by omega)
      have hp : 2 ^ h ≤ 2 ^ 6 := Nat.pow_le_pow_right (by omega) (by omega)
      have e1 : nI a + ((2 : Int32) <<< (nI h &&& 31)) - 1 = bk_I (((a + 2 * 2 ^ h : Nat) : Int) - 1) := by
        rw [t1, nI_add, bk_nI, show (1 : Int32) = bk_I 1 by decide, bk_sub]
      refine pk_le 6 h (fun z => absurd z (by omega)) (fun _ => ?_)
      refine ek_if t2 (fun c1 => ?_) (fun c1 => ?_)
      · refine bk_lt _ _ rfl e1 (by omega) (by omega) (fun c2 => ?_) (fun c2 => ?_)
        · rw [show bk_wdf a l (f + 1) h = h from if_neg (fun z => absurd z.2 (by omega))] at H
          exact H
        · refine nm_r (nI_1 h) (ih (h + 1) (by omega) ?_)
          rw [show bk_wdf a l (f + 1) h = bk_wdf a l f (h + 1) from if_pos ⟨c1, by omega⟩] at H
          exact H
      · rw [show bk_wdf a l (f + 1) h = h from if_neg (fun z => c1 z.1)] at H
        exact H
  exact ⟨7, key 6 0 (by omega) H⟩
theorem bk_walkL {post : St2 → Prop} {ac s l : Nat} {P : Nat → Int} (hac : ac < 4) (hl : l ≤ 48) (ok : bk_ok a6 a7 a8 (128 * ac) P) (hB : bk_B P)
    (H : ∀ wc wl wa, bk_W P s l wc wl wa → post (f0, f1, f2, f3, wc, wl, wa, a1, a2, a3, a4, a5, a6, a7, a8, a9)) :
    ∀ f a wc wl wa, f ≤ 14 → a ≤ l → l ≤ bk_it l f a → bk_W P s a wc wl wa → wX_walk_29 post (bk_I ((l : Int) - 1)) (nI (128 * ac)) f0 f1 f2 f3 a1 a2 a3 a4 a5 a6 a7 a8 a9 (f + 1) (nI a) (nI (14 - f)) wc wl wa := by
  intro f
  induction f with
  | zero =>
    intro a wc wl wa hf ha hi hW
    have e : a = l := Nat.le_antisymm ha hi
    subst e
    exact pk_le 14 14 (fun _ => H wc wl wa hW) (fun z => absurd z (by omega))
  | succ f ih =>
    intro a wc wl wa hf ha hi hW
    refine pk_le 14 (14 - (f + 1)) (fun z => absurd z (by omega)) (fun _ => ?_)
    refine bk_lt _ _ rfl (bk_nI a) (by omega) (by omega) (fun c => ?_) (fun c => ?_)
    · have e : a = l := by omega
      subst e
      exact H wc wl wa hW
    · have hal : a < l := by omega
      obtain ⟨w1, w2, w3, w4, w5, w6⟩ := bk_wdo a (by omega) l (by omega) hal
      refine bk_widest (by omega) hl rfl rfl ?_
      intro x8 e8
      rw [bk_t3 a (by omega) _ w1, nI_add] at e8
      have nd := ok _ w5 w6
      rw [w3, w4] at nd
      have c8 : x8.toNatClampNeg = 128 * ac + (64 + a) / 2 ^ bk_wd a l := pk_cl _ e8 (by omega)
      have i8 : vp_in x8 512 := pk_in _ 512 (by omega) e8
      have hit : l ≤ bk_it l f (a + 2 ^ bk_wd a l) := by
        have e : bk_it l (f + 1) a = bk_it l f (a + 2 ^ bk_wd a l) := if_neg (by omega)
        rw [← e]
        exact hi
      refine ⟨i8, ?_⟩
      intro x9 e9
      rw [c8] at e9
      have fin : ∀ z, ((wl ≤ x9 → z = wl) ∧ (¬ wl ≤ x9 → z = x9)) → wX_walk_96 post (wX_walk_29 post (bk_I ((l : Int) - 1)) (nI (128 * ac)) f0 f1 f2 f3 a1 a2 a3 a4 a5 a6 a7 a8 a9 (f + 1)) (bk_I ((l : Int) - 1)) (nI (128 * ac)) (nI a) (nI (14 - (f + 1))) (nI (bk_wd a l)) x8 z f0 f1 f2 f3 wc wl wa a1 a2 a3 a4 a5 a6 a7 a8 a9 := by
        intro z hz
        unfold wX_walk_96
        rw [e9] at hz
        refine ⟨i8, fun f10 e10 => ⟨i8, fun f12 e12 => fun x5 e5 => fun x6 e6 => ?_⟩⟩
        rw [c8, bk_shl _ w1] at e10
        rw [c8] at e12
        rw [(bk_t1 _ w1).2, nI_add] at e5
        rw [nI_1, show 14 - (f + 1) + 1 = 14 - f by omega] at e6
        rw [e10, e12, e5, e6]
        exact ih _ _ _ _ (by omega) w2 hit (bk_W_s hB (Nat.two_pow_pos _) hW nd hz rfl)
      exact br_c (fun c => fin wl ⟨fun _ => rfl, fun h => absurd c h⟩) (fun c => fin x9 ⟨fun h => absurd h c, fun _ => rfl⟩)
theorem bk_walk {post : St2 → Prop} {ac s l : Nat} {P : Nat → Int} (hac : ac < 4) (hs : s ≤ l) (hl : l ≤ 48) (ok : bk_ok a6 a7 a8 (128 * ac) P) (hB : bk_B P) {x y z : Int32} (hx : x = nI ac) (hy : y = nI s) (hz : z = bk_I ((l : Int) - 1))
    (H : ∀ wc wl wa, bk_W P s l wc wl wa → post (f0, f1, f2, f3, wc, wl, wa, a1, a2, a3, a4, a5, a6, a7, a8, a9)) :
    wpX_walk post (f0, f1, f2, f3, f4, f5, f6, a1, a2, a3, a4, a5, a6, a7, a8, a9) x y z := by
  subst hx hy hz
  unfold wpX_walk
  refine nm_r (pk_mul 128 ac) ?_
  exact ⟨15, bk_walkL hac hl ok hB H 14 s 0 2147483647 0 (Nat.le_refl 14) hs (bk_ito l (by omega) s (by omega)) (bk_W_0 P s)⟩
/-- the least balance of the days s .. l - 1 -/
def bk_lo (P : Nat → Int) (s l : Nat) (r : Int32) : Prop := ∃ v, r = bk_I v ∧ (∀ k, s < k → k ≤ l → v ≤ P k) ∧ ∃ k, s < k ∧ k ≤ l ∧ v = P k
theorem bk_dn (s : Nat) : nI s - 1 = bk_I ((s : Int) - 1) := by
  rw [bk_nI, show (1 : Int32) = bk_I 1 by decide, bk_sub]
theorem bk_lowestIn {post : Int32 → St2 → Prop} {ac s l : Nat} {P : Nat → Int} (hac : ac < 4) (hs : s < l) (hl : l ≤ 48) (ok : bk_ok a6 a7 a8 (128 * ac) P) (hB : bk_B P) {x y z : Int32} (hx : x = nI ac) (hy : y = nI s) (hz : z = bk_I ((l : Int) - 1))
    (H : ∀ r wc wl wa, bk_lo P s l r → post r (f0, f1, f2, f3, wc, wl, wa, a1, a2, a3, a4, a5, a6, a7, a8, a9)) :
    wpX_lowestIn post (f0, f1, f2, f3, f4, f5, f6, a1, a2, a3, a4, a5, a6, a7, a8, a9) x y z := by
  subst hx hy hz
  unfold wpX_lowestIn
  refine bk_walk (s := 0) (l := s) hac (by omega) (by omega) ok hB rfl rfl (bk_dn s) (fun wc wl wa hW => ?_)
  refine bk_walk hac (by omega) hl ok hB rfl rfl rfl (fun wc' wl' wa' hW' => ?_)
  refine H _ _ _ _ ?_
  obtain ⟨_, h1, _, _⟩ := hW
  obtain ⟨_, _, h2, _⟩ := hW'
  have z0 := hB.1
  rcases h2 with ⟨e, _⟩ | ⟨_, v, hv, m1, k, k1, k2, k3⟩
  · omega
  · refine ⟨P s - P 0 + v, by rw [h1, hv, bk_add], fun k h h' => ?_, k, k1, by omega, by omega⟩
    have := m1 k h (by omega)
    omega
end bk_sec3
end
section
/-- the way up an entry's tree: all nodes but those above the one that was worked out last are right -/
def bk_iv (d i b : Nat) (Q : Nat → Int) (c l r : Nat → Int32) : Prop := ∀ n, 1 ≤ n → n < 128 → ((64 + d) / 2 ^ i ≤ n ∨ d < bk_st n ∨ bk_st n + bk_wi n ≤ d) → bk_nd c l r (b + n) Q (bk_st n) (bk_wi n)
theorem bk_iv_s {d i b m : Nat} {Q : Nat → Int} {c l r : Nat → Int32} {z : Int32} (hd : d < 48) (hi : i < 6) (hm : (64 + d) / 2 ^ (i + 1) = m) (hB : bk_B Q) (h : bk_iv d i b Q c l r)
    (hz : (c (b + 2 * m) + l (b + (2 * m + 1)) ≤ l (b + 2 * m) → z = c (b + 2 * m) + l (b + (2 * m + 1))) ∧ (¬ c (b + 2 * m) + l (b + (2 * m + 1)) ≤ l (b + 2 * m) → z = l (b + 2 * m))) :
    bk_iv d (i + 1) b Q (upd c (b + m) (c (b + 2 * m) + c (b + (2 * m + 1)))) (upd l (b + m) z) (upd r (b + m) (r (b + 2 * m) + r (b + (2 * m + 1)) + c (b + 2 * m) * nI (2 ^ i))) := by
  obtain ⟨t1, t2, t3, t4, t5, _⟩ := bk_up5 d hd i hi
  rw [hm] at t1 t2 t3 t4 t5
  obtain ⟨k1, k2, k3, k4⟩ := bk_kid m t2 t1
  have n1 := h (2 * m) (by omega) (by omega) (t5.elim (fun t => Or.inl t) (fun t => Or.inr (Or.inr t)))
  have n2 := h (2 * m + 1) (by omega) (by omega) (Or.inl t4)
  rw [k3, t3] at n1
  rw [k4, k2, t3] at n2
  intro n hn1 hn2 hc
  by_cases e : n = m
  · rw [e, k1, t3]
    exact bk_join hB n1 n2 (by rw [pk_us]) (by rw [pk_us]; exact hz) (by rw [pk_us]) rfl
  · have ne : b + n ≠ b + m := by omega
    refine bk_nd_eq (h n hn1 hn2 ?_) (pk_un ne) (pk_un ne) (pk_un ne)
    rcases hc with hc | hc
    · rw [hm] at hc
      by_cases g : (64 + d) / 2 ^ i ≤ n
      · exact Or.inl g
      · exact Or.inr (bk_up6 d hd i hi n hn2 (by rw [hm]; omega) (Nat.lt_of_not_le g))
    · exact Or.inr hc
section bk_sec4
variable {f0 f1 f2 f3 f4 f5 f6 : Int32} {a1 a2 a3 a4 a5 a6 a7 a8 a9 : Nat → Int32}
theorem bk_addL {post : St2 → Prop} {ac d : Nat} {Q : Nat → Int} {c0 l0 r0 : Nat → Int32} (hac : ac < 4) (hd : d < 48) (hB : bk_B Q)
    (H : ∀ c l r, bk_ok c l r (128 * ac) Q → (∀ j, (j ≤ 128 * ac ∨ 128 * ac + 128 ≤ j) → c j = c0 j ∧ l j = l0 j ∧ r j = r0 j) → post (f0, f1, f2, f3, f4, f5, f6, a1, a2, a3, a4, a5, c, l, r, a9)) :
    ∀ f i c l r, f + i = 6 → bk_iv d i (128 * ac) Q c l r → (∀ j, (j ≤ 128 * ac ∨ 128 * ac + 128 ≤ j) → c j = c0 j ∧ l j = l0 j ∧ r j = r0 j) →
      wX_add_73 post (nI (128 * ac)) f0 f1 f2 f3 f4 f5 f6 (f + 1) (nI ((64 + d) / 2 ^ i)) (nI (2 ^ i)) (nI i) a1 a2 a3 a4 a5 c l r a9 := by
  intro f
  induction f with
  | zero =>
    intro i c l r e hI hF
    obtain rfl : i = 6 := by omega
    refine pk_le 6 6 (fun _ => H c l r (fun n h1 h2 => hI n h1 h2 (Or.inl ?_)) hF) (fun z => absurd z (by omega))
    omega
  | succ f ih =>
    intro i c l r e hI hF
    obtain ⟨t1, t2, t3, t4, t5, t6⟩ := bk_up5 d hd i (by omega)
    have hb : (64 + d) / 2 ^ i < 2 ^ 31 := Nat.lt_of_le_of_lt (Nat.div_le_self _ _) (by omega)
    generalize hm : (64 + d) / 2 ^ (i + 1) = m at t1 t2 t3 t4 t5 t6
    refine pk_le 6 i (fun z => absurd z (by omega)) (fun _ => ?_)
    refine nm_r (e' := nI m) (by rw [bk_shr1 hb, t6]) ?_
    intro x8 e8
    have e8' : x8 = nI (128 * ac + 2 * m) := by
      rw [e8, show (2 : Int32) * nI m = nI (2 * m) from pk_mul 2 m, nI_add]
    have c8 : x8.toNatClampNeg = 128 * ac + 2 * m := pk_cl _ e8' (by omega)
    have e81 : x8 + 1 = nI (128 * ac + (2 * m + 1)) := by rw [e8', nI_1, Nat.add_assoc]
    have c81 : (x8 + 1).toNatClampNeg = 128 * ac + (2 * m + 1) := pk_cl _ e81 (by omega)
    have ez : nI (128 * ac) + nI m = nI (128 * ac + m) := nI_add _ _
    have cz : (nI (128 * ac) + nI m).toNatClampNeg = 128 * ac + m := pk_cl _ ez (by omega)
    have i8 : vp_in x8 512 := pk_in _ 512 (by omega) e8'
    have i81 : vp_in (x8 + 1) 512 := pk_in _ 512 (by omega) e81
    have iz : vp_in (nI (128 * ac) + nI m) 512 := pk_in _ 512 (by omega) ez
    refine ⟨i8, i81, ?_⟩
    intro x9 e9
    rw [c8, c81] at e9
    refine ⟨i8, i81, iz, ?_⟩
    intro c' ec
    rw [cz, c8, c81] at ec
    have fin : ∀ z, ((c (128 * ac + 2 * m) + l (128 * ac + (2 * m + 1)) ≤ l (128 * ac + 2 * m) → z = c (128 * ac + 2 * m) + l (128 * ac + (2 * m + 1))) ∧ (¬ c (128 * ac + 2 * m) + l (128 * ac + (2 * m + 1)) ≤ l (128 * ac + 2 * m) → z = l (128 * ac + 2 * m))) →
        wX_add_174 post (wX_add_73 post (nI (128 * ac)) f0 f1 f2 f3 f4 f5 f6 (f + 1)) (nI (128 * ac)) (nI m) (nI (2 ^ i)) (nI i) x8 z (nI (128 * ac) + nI m) f0 f1 f2 f3 f4 f5 f6 a1 a2 a3 a4 a5 c' l r a9 := by
      intro z hz
      unfold wX_add_174
      refine ⟨iz, fun l' el => ⟨i8, i81, i8, iz, fun r' er => fun x6 e6 => fun x7 e7 => ?_⟩⟩
      rw [cz] at el
      rw [cz, c8, c81, ec, pk_un (show 128 * ac + 2 * m ≠ 128 * ac + m by omega)] at er
      rw [show (2 : Int32) * nI (2 ^ i) = nI (2 * 2 ^ i) from pk_mul 2 (2 ^ i), show 2 * 2 ^ i = 2 ^ (i + 1) by rw [Nat.pow_succ]; omega] at e6
      rw [nI_1] at e7
      rw [e6, e7, ← hm, el, er, ec]
      refine ih (i + 1) _ _ _ (by omega) (bk_iv_s hd (by omega) hm hB hI hz) (fun j hj => ?_)
      have ne : j ≠ 128 * ac + m := by omega
      rw [pk_un ne, pk_un ne, pk_un ne]
      exact hF j hj
    refine ⟨i8, ?_⟩
    refine br_c (fun q => fin x9 ?_) (fun q => ⟨i8, fin (l x8.toNatClampNeg) ?_⟩)
    · rw [e9, c8] at q
      exact ⟨fun _ => e9, fun h => absurd q h⟩
    · rw [e9, c8] at q
      rw [c8]
      exact ⟨fun h => absurd h q, fun _ => rfl⟩
theorem bk_addW {post : St2 → Prop} {ac d : Nat} {P : Nat → Int} {x : Int} (hac : ac < 4) (hd : d < 48) (ok : bk_ok a6 a7 a8 (128 * ac) P) (hB : bk_B (bk_pt P d x)) {p0 p1 p2 : Int32} (h0 : p0 = nI ac) (h1 : p1 = nI d) (h2 : p2 = bk_I x)
    (H : ∀ c l r, bk_ok c l r (128 * ac) (bk_pt P d x) → (∀ j, (j ≤ 128 * ac ∨ 128 * ac + 128 ≤ j) → c j = a6 j ∧ l j = a7 j ∧ r j = a8 j) → post (f0, f1, f2, f3, f4, f5, f6, a1, a2, a3, a4, a5, c, l, r, a9)) :
    wpX_add post (f0, f1, f2, f3, f4, f5, f6, a1, a2, a3, a4, a5, a6, a7, a8, a9) p0 p1 p2 := by
  subst h0 h1 h2
  unfold wpX_add
  refine nm_r (pk_mul 128 ac) (nm_r (nI_add 64 d) ?_)
  have ez : nI (128 * ac) + nI (64 + d) = nI (128 * ac + (64 + d)) := nI_add _ _
  have cz : (nI (128 * ac) + nI (64 + d)).toNatClampNeg = 128 * ac + (64 + d) := pk_cl _ ez (by omega)
  have iz : vp_in (nI (128 * ac) + nI (64 + d)) 512 := pk_in _ 512 (by omega) ez
  refine ⟨iz, iz, fun c ec => ⟨iz, iz, fun l el => ⟨iz, iz, fun r er => ⟨7, ?_⟩⟩⟩⟩
  rw [cz] at ec el er
  have hI : bk_iv d 0 (128 * ac) (bk_pt P d x) c l r := by
    intro n hn1 hn2 hc
    by_cases e : n = 64 + d
    · obtain ⟨w1, w2⟩ := bk_leaf (64 + d) (by omega) (by omega)
      have o := ok (64 + d) (by omega) (by omega)
      rw [w1, w2, show 64 + d - 64 = d by omega] at o
      obtain ⟨o1, _, _⟩ := o
      rw [e, w1, w2, show 64 + d - 64 = d by omega]
      have v : c (128 * ac + (64 + d)) = bk_I (bk_pt P d x (d + 1) - bk_pt P d x d) := by
        rw [ec, pk_us, o1, bk_add, bk_pt_hi (by omega), bk_pt_lo (by omega)]
        congr 1
        omega
      refine ⟨v, ⟨_, by rw [el, pk_us, v], fun k h h' => ?_, d + 1, by omega, by omega, rfl⟩, ?_⟩
      · rw [show k = d + 1 by omega]
        exact Int.le_refl _
      · rw [er, pk_us, v]
        show bk_I _ = bk_I (0 + (bk_pt P d x (d + 0 + 1) - bk_pt P d x d))
        rw [Int.zero_add, Nat.add_zero]
    · have ne : 128 * ac + n ≠ 128 * ac + (64 + d) := by omega
      have out : d < bk_st n ∨ bk_st n + bk_wi n ≤ d := by
        rcases hc with hc | hc
        · rw [Nat.pow_zero, Nat.div_one] at hc
          obtain ⟨w1, w2⟩ := bk_leaf n hn2 (by omega)
          left
          omega
        · exact hc
      exact bk_nd_eq (bk_nd_cg (ok n hn1 hn2) (bk_pt_out out)) (by rw [ec, pk_un ne]) (by rw [el, pk_un ne]) (by rw [er, pk_un ne])
  have hF : ∀ j, (j ≤ 128 * ac ∨ 128 * ac + 128 ≤ j) → c j = a6 j ∧ l j = a7 j ∧ r j = a8 j := by
    intro j hj
    have ne : j ≠ 128 * ac + (64 + d) := by omega
    rw [ec, el, er, pk_un ne, pk_un ne, pk_un ne]
    exact ⟨rfl, rfl, rfl⟩
  have K := bk_addL hac hd hB H 6 0 c l r rfl hI hF
  rw [Nat.pow_zero, Nat.div_one] at K
  exact K
theorem bk_enter {post : Int32 → St2 → Prop} {ac d q : Nat} {P : Nat → Int} {x : Int} (hq : q < 60) (hac : ac < 4) (hd : d < 48) (ok : bk_ok a6 a7 a8 (128 * ac) P) (hB : bk_B (bk_pt P d x)) {p0 p1 p2 : Int32} (h0 : p0 = nI ac) (h1 : p1 = nI d) (h2 : p2 = bk_I x)
    (H : ∀ b1 b2 b3 b4 c l r, bk_ok c l r (128 * ac) (bk_pt P d x) → (∀ j, (j ≤ 128 * ac ∨ 128 * ac + 128 ≤ j) → c j = a6 j ∧ l j = a7 j ∧ r j = a8 j) → post (nI q) (nI (q + 1), f1, f2, f3, f4, f5, f6, b1, b2, b3, b4, a5, c, l, r, a9)) :
    wpX_enter post (nI q, f1, f2, f3, f4, f5, f6, a1, a2, a3, a4, a5, a6, a7, a8, a9) p0 p1 p2 := by
  unfold wpX_enter
  refine ⟨pk_in q 60 hq, fun b1 _ => ⟨pk_in q 60 hq, fun b2 _ => ⟨pk_in q 60 hq, fun b3 _ => ⟨pk_in q 60 hq, fun b4 _ => ?_⟩⟩⟩⟩
  refine bk_addW hac hd ok hB h0 h1 h2 (fun c l r ho hf => ?_)
  refine nm_r (nI_1 q) ?_
  rw [nI_pred]
  exact H b1 b2 b3 b4 c l r ho hf
end bk_sec4
end
section
section bk_sec5
variable {f0 f1 f2 f3 f4 f5 f6 : Int32} {a1 a2 a3 a4 a5 a6 a7 a8 a9 : Nat → Int32}
/-- down from a node that holds a day below the bound to the first such day -/
theorem bk_descL {post : Int32 → Prop} {ac s0 : Nat} {P : Nat → Int} {b : Int} (hac : ac < 4) (ok : bk_ok a6 a7 a8 (128 * ac) P) (hB : bk_B P) (hb : -2147483648 ≤ b ∧ b < 2147483648)
    (H : ∀ m, s0 ≤ m → m < 64 → P (m + 1) < b → (∀ k, s0 < k → k ≤ m → b ≤ P k) → post (nI m)) :
    ∀ f i n, f + i = 6 → 64 ≤ n * 2 ^ f → 1 ≤ n → n < 128 → s0 ≤ bk_st n → (∃ k, bk_st n < k ∧ k ≤ bk_st n + bk_wi n ∧ P k < b) → (∀ k, s0 < k → k ≤ bk_st n → b ≤ P k) →
      wX_descend_16 post (bk_I b) (nI (128 * ac)) f0 f1 f2 f3 f4 f5 f6 a1 a2 a3 a4 a5 a6 a7 a8 a9 (f + 1) (nI n) (bk_I (P (bk_st n))) (nI i) := by
  have done : ∀ n, 64 ≤ n → n < 128 → s0 ≤ bk_st n → (∃ k, bk_st n < k ∧ k ≤ bk_st n + bk_wi n ∧ P k < b) → (∀ k, s0 < k → k ≤ bk_st n → b ≤ P k) → post (nI n - 64) := by
    intro n h1 h2 h3 h4 h5
    obtain ⟨w1, w2⟩ := bk_leaf n h2 h1
    obtain ⟨k, k1, k2, k3⟩ := h4
    rw [show nI n - 64 = nI (n - 64) from pk_sub h1]
    rw [w2] at h3 h5
    rw [w1, w2] at k2
    rw [w2] at k1
    refine H (n - 64) h3 (by omega) ?_ h5
    rw [show n - 64 + 1 = k by omega]
    exact k3
  intro f
  induction f with
  | zero =>
    intro i n e h1 h2 h3 h4 h5 h6
    obtain rfl : i = 6 := by omega
    exact pk_le 6 6 (fun _ => done n (by omega) h3 h4 h5 h6) (fun z => absurd z (by omega))
  | succ f ih =>
    intro i n e h1 h2 h3 h4 h5 h6
    refine pk_le 6 i (fun z => absurd z (by omega)) (fun _ => ?_)
    refine pk_le 64 n (fun z => done n z h3 h4 h5 h6) (fun hn => ?_)
    refine nm_r (pk_mul 2 n) ?_
    obtain ⟨k1, k2, k3, k4⟩ := bk_kid n hn h2
    obtain ⟨o1, ⟨v, o2, m1, k0, q1, q2, q3⟩, _⟩ := ok (2 * n) (by omega) (by omega)
    have hw := (bk_nin (2 * n) (by omega) (by omega)).2
    rw [k3] at o1 m1 q1 q2 q3
    have pw : n * 2 ^ (f + 1) = 2 * n * 2 ^ f := by
      rw [Nat.pow_succ, Nat.mul_comm 2 n, Nat.mul_assoc, Nat.mul_comm 2]
    have pw2 : 2 * n * 2 ^ f ≤ (2 * n + 1) * 2 ^ f := Nat.mul_le_mul_right _ (by omega)
    rw [pw] at h1
    have ez : nI (128 * ac) + nI (2 * n) = nI (128 * ac + 2 * n) := nI_add _ _
    have cz : (nI (128 * ac) + nI (2 * n)).toNatClampNeg = 128 * ac + 2 * n := pk_cl _ ez (by omega)
    have iz : vp_in (nI (128 * ac) + nI (2 * n)) 512 := pk_in _ 512 (by omega) ez
    have p1 := hB.2 (bk_st n)
    have p2 := hB.2 k0
    have ev : bk_I (P (bk_st n)) + a7 (nI (128 * ac) + nI (2 * n)).toNatClampNeg = bk_I (P (bk_st n) + v) := by
      rw [cz, o2, bk_add]
    refine ⟨iz, bk_lt _ _ ev rfl (by omega) hb (fun c => nm_r (nI_1 i) ?_) (fun c => ⟨iz, ?_⟩)⟩
    · have K := ih (i + 1) (2 * n) (by omega) h1 (by omega) (by omega) (by rw [k3]; exact h4) ⟨k0, by rw [k3]; exact q1, by rw [k3]; exact q2, by omega⟩ (fun k g1 g2 => h6 k g1 (by rw [k3] at g2; exact g2))
      rw [k3] at K
      exact K
    · refine nm_r (e' := bk_I (P (bk_st n + bk_wi (2 * n)))) ?_ (nm_r (nI_1 (2 * n)) (nm_r (nI_1 i) ?_))
      · rw [cz, o1, bk_add]
        congr 1
        omega
      · obtain ⟨k, g1, g2, g3⟩ := h5
        have K := ih (i + 1) (2 * n + 1) (by omega) (Nat.le_trans h1 pw2) (by omega) (by omega) (by rw [k4]; omega) ⟨k, ?_, by rw [k4, k2]; omega, g3⟩ (fun j j1 j2 => ?_)
        · rw [k4] at K
          exact K
        · rw [k4]
          apply Classical.byContradiction
          intro g
          have := m1 k g1 (by omega)
          omega
        · rw [k4] at j2
          by_cases g : j ≤ bk_st n
          · exact h6 j j1 g
          · have := m1 j (by omega) (by omega)
            omega
/-- the first day from s on below the bound -/
def bk_fs (P : Nat → Int) (b : Int) (s : Nat) (r : Int32) : Prop := (r = -1 ∧ ∀ k, s < k → k ≤ 48 → b ≤ P k) ∨ (∃ m, s ≤ m ∧ m < 48 ∧ r = nI m ∧ P (m + 1) < b ∧ ∀ k, s < k → k ≤ m → b ≤ P k)
theorem bk_srchL {post : Int32 → St2 → Prop} {ac s : Nat} {P : Nat → Int} {b : Int} (hac : ac < 4) (ok : bk_ok a6 a7 a8 (128 * ac) P) (hB : bk_B P) (hb : -2147483648 ≤ b ∧ b < 2147483648)
    (H : ∀ r, bk_fs P b s r → post r (f0, f1, f2, f3, f4, f5, f6, a1, a2, a3, a4, a5, a6, a7, a8, a9)) :
    ∀ f i a, f + i = 14 → s ≤ a → a ≤ 48 → 48 ≤ bk_it 48 f a → (∀ k, s < k → k ≤ a → b ≤ P k) →
      wX_search_28 post (nI ac) (bk_I b) (nI (128 * ac)) f0 f1 f2 f3 f4 f5 f6 a1 a2 a3 a4 a5 a6 a7 a8 a9 (f + 1) (bk_I (P a)) (nI a) (nI i) := by
  intro f
  induction f with
  | zero =>
    intro i a e h1 h2 h3 h4
    have e2 : a = 48 := Nat.le_antisymm h2 h3
    obtain rfl : i = 14 := by omega
    exact pk_le 14 14 (fun _ => H _ (Or.inl ⟨rfl, fun k g1 g2 => h4 k g1 (by omega)⟩)) (fun z => absurd z (by omega))
  | succ f ih =>
    intro i a e h1 h2 h3 h4
    refine pk_le 14 i (fun z => absurd z (by omega)) (fun _ => ?_)
    refine pk_le 48 a (fun z => H _ (Or.inl ⟨rfl, fun k g1 g2 => h4 k g1 (by omega)⟩)) (fun ha => ?_)
    obtain ⟨w1, w2, w3, w4, w5, w6⟩ := bk_wdo a ha 48 (by omega) ha
    refine bk_widest (l := 48) ha (by omega) rfl (by decide) ?_
    refine nm_r (bk_t3 a ha _ w1) ?_
    have nd := ok _ w5 w6
    rw [w3, w4] at nd
    obtain ⟨o1, ⟨v, o2, m1, k0, q1, q2, q3⟩, _⟩ := nd
    have ez : nI (128 * ac) + nI ((64 + a) / 2 ^ bk_wd a 48) = nI (128 * ac + (64 + a) / 2 ^ bk_wd a 48) := nI_add _ _
    have cz : (nI (128 * ac) + nI ((64 + a) / 2 ^ bk_wd a 48)).toNatClampNeg = 128 * ac + (64 + a) / 2 ^ bk_wd a 48 := pk_cl _ ez (by omega)
    have iz : vp_in (nI (128 * ac) + nI ((64 + a) / 2 ^ bk_wd a 48)) 512 := pk_in _ 512 (by omega) ez
    have p1 := hB.2 a
    have p2 := hB.2 k0
    have ev : bk_I (P a) + a7 (nI (128 * ac) + nI ((64 + a) / 2 ^ bk_wd a 48)).toNatClampNeg = bk_I (P a + v) := by
      rw [cz, o2, bk_add]
    have hit : 48 ≤ bk_it 48 f (a + 2 ^ bk_wd a 48) := by
      have e : bk_it 48 (f + 1) a = bk_it 48 f (a + 2 ^ bk_wd a 48) := if_neg (by omega)
      rw [← e]
      exact h3
    refine ⟨iz, bk_le _ _ rfl ev hb (by omega) (fun c => ⟨iz, ?_⟩) (fun c => ?_)⟩
    · refine nm_r (e' := bk_I (P (a + 2 ^ bk_wd a 48))) ?_ (nm_r (e' := nI (a + 2 ^ bk_wd a 48)) (by rw [(bk_t1 _ w1).2, nI_add]) (nm_r (nI_1 i) ?_))
      · rw [cz, o1, bk_add]
        congr 1
        omega
      · refine ih (i + 1) _ (by omega) (by omega) w2 hit (fun k g1 g2 => ?_)
        by_cases g : k ≤ a
        · exact h4 k g1 g
        · have := m1 k (by omega) g2
          omega
    · unfold wpX_descend
      refine nm_r (pk_mul 128 ac) ⟨7, ?_⟩
      have K := bk_descL (f0 := f0) (f1 := f1) (f2 := f2) (f3 := f3) (f4 := f4) (f5 := f5) (f6 := f6) (a1 := a1) (a2 := a2) (a3 := a3) (a4 := a4) (a5 := a5) (a9 := a9) (post := fun r => post r (f0, f1, f2, f3, f4, f5, f6, a1, a2, a3, a4, a5, a6, a7, a8, a9)) (s0 := a) hac ok hB hb (fun m g1 g2 g3 g4 => H _ (Or.inr ⟨m, by omega, ?_, rfl, g3, fun k j1 j2 => ?_⟩)) 6 0 ((64 + a) / 2 ^ bk_wd a 48) rfl (by omega) w5 w6 (by rw [w4]; exact Nat.le_refl a) ⟨k0, by rw [w4]; exact q1, by rw [w3, w4]; exact q2, by omega⟩ (fun k j1 j2 => absurd j2 (by rw [w4]; omega))
      · rw [w4] at K
        exact K
      · apply Classical.byContradiction
        intro g
        have := g4 k0 q1 (by omega)
        omega
      · by_cases g : k ≤ a
        · exact h4 k j1 g
        · exact g4 k (by omega) j2
theorem bk_search {post : Int32 → St2 → Prop} {ac s : Nat} {P : Nat → Int} {b : Int} (hac : ac < 4) (hs : s ≤ 48) (ok : bk_ok a6 a7 a8 (128 * ac) P) (hB : bk_B P) (hb : -2147483648 ≤ b ∧ b < 2147483648) {p0 p1 p2 : Int32} (h0 : p0 = nI ac) (h1 : p1 = nI s) (h2 : p2 = bk_I b)
    (H : ∀ r wc wl wa, bk_fs P b s r → post r (f0, f1, f2, f3, wc, wl, wa, a1, a2, a3, a4, a5, a6, a7, a8, a9)) :
    wpX_search post (f0, f1, f2, f3, f4, f5, f6, a1, a2, a3, a4, a5, a6, a7, a8, a9) p0 p1 p2 := by
  subst h0 h1 h2
  unfold wpX_search
  refine nm_r (pk_mul 128 ac) ?_
  refine bk_walk (s := 0) (l := s) hac (by omega) hs ok hB rfl rfl (bk_dn s) (fun wc wl wa hW => ⟨15, ?_⟩)
  obtain ⟨_, e, _, _⟩ := hW
  have z0 := hB.1
  rw [show P s - P 0 = P s by omega] at e
  rw [e]
  exact bk_srchL hac ok hB hb (fun r hr => H r _ _ _ hr) 14 0 s rfl (Nat.le_refl s) hs (bk_ito 48 (by omega) s (by omega)) (fun k g1 g2 => absurd g1 (by omega))
/-- how many of the first n days are below the bound -/
def bk_cnt (P : Nat → Int) (b : Int) : Nat → Nat
  | 0 => 0
  | n + 1 => bk_cnt P b n + (if P (n + 1) < b then 1 else 0)
theorem bk_cnt_le (P : Nat → Int) (b : Int) (n : Nat) : bk_cnt P b n ≤ n := by
  induction n with
  | zero => exact Nat.le_refl 0
  | succ n ih =>
    show bk_cnt P b n + (if P (n + 1) < b then 1 else 0) ≤ n + 1
    split <;> omega
theorem bk_cnt_seg {P : Nat → Int} {b v : Int} {s : Nat} (n : Nat) (h : ∀ k, s < k → k ≤ s + n → P k = v) : bk_cnt P b (s + n) = bk_cnt P b s + (if v < b then n else 0) := by
  induction n with
  | zero => split <;> rfl
  | succ n ih =>
    show bk_cnt P b (s + n) + (if P (s + n + 1) < b then 1 else 0) = _
    rw [ih (fun k h1 h2 => h k h1 (by omega)), h (s + n + 1) (by omega) (by omega)]
    split <;> omega
theorem bk_cnt_flat {P : Nat → Int} {b : Int} {s : Nat} (n : Nat) (h : ∀ k, s < k → k ≤ s + n → b ≤ P k) : bk_cnt P b (s + n) = bk_cnt P b s := by
  induction n with
  | zero => rfl
  | succ n ih =>
    show bk_cnt P b (s + n) + (if P (s + n + 1) < b then 1 else 0) = _
    have := h (s + n + 1) (by omega) (by omega)
    rw [ih (fun k h1 h2 => h k h1 (by omega)), if_neg (by omega)]
    omega
/-- a search's answer against the days counted so far -/
def bk_at (P : Nat → Int) (b : Int) (j : Nat) (r : Int32) : Prop := (r = -1 ∧ bk_cnt P b 48 = j) ∨ (∃ m, m < 48 ∧ r = nI m ∧ P (m + 1) < b ∧ bk_cnt P b m = j)
theorem bk_at_of {P : Nat → Int} {b : Int} {s : Nat} {r : Int32} (hs : s ≤ 48) (h : bk_fs P b s r) : bk_at P b (bk_cnt P b s) r := by
  rcases h with ⟨e, h⟩ | ⟨m, h1, h2, h3, h4, h5⟩
  · refine Or.inl ⟨e, ?_⟩
    have := bk_cnt_flat (P := P) (b := b) (s := s) (48 - s) (fun k g1 g2 => h k g1 (by omega))
    rw [show s + (48 - s) = 48 by omega] at this
    exact this
  · refine Or.inr ⟨m, h2, h3, h4, ?_⟩
    have := bk_cnt_flat (P := P) (b := b) (s := s) (m - s) (fun k g1 g2 => h5 k g1 (by omega))
    rw [show s + (m - s) = m by omega] at this
    exact this
theorem bk_daysL {post : Int32 → St2 → Prop} {ac : Nat} {P : Nat → Int} {b : Int} (hac : ac < 4) (ok : bk_ok a6 a7 a8 (128 * ac) P) (hB : bk_B P) (hb : -2147483648 ≤ b ∧ b < 2147483648)
    (H : ∀ wc wl wa, post (nI (bk_cnt P b 48)) (f0, f1, f2, f3, wc, wl, wa, a1, a2, a3, a4, a5, a6, a7, a8, a9)) :
    ∀ f j r wc wl wa, f + j = 48 → bk_at P b j r →
      wX_daysBelow_23 post (nI ac) (bk_I b) (f + 1) (nI j) r (nI j) f0 f1 f2 f3 wc wl wa a1 a2 a3 a4 a5 a6 a7 a8 a9 := by
  intro f
  induction f with
  | zero =>
    intro j r wc wl wa e h
    obtain rfl : j = 48 := by omega
    rcases h with ⟨_, h⟩ | ⟨m, h1, _, _, h⟩
    · have K := H wc wl wa
      rw [h] at K
      exact pk_le 48 48 (fun _ => K) (fun z => absurd z (by omega))
    · have := bk_cnt_le P b m
      omega
  | succ f ih =>
    intro j r wc wl wa e h
    refine pk_le 48 j (fun z => absurd z (by omega)) (fun _ => ?_)
    rcases h with ⟨e1, h⟩ | ⟨m, h1, e1, h2, h⟩
    · have K := H wc wl wa
      rw [h] at K
      rw [e1]
      exact br_t (by decide) K
    · have hc : bk_cnt P b (m + 1) = j + 1 := by
        show bk_cnt P b m + (if P (m + 1) < b then 1 else 0) = j + 1
        rw [if_pos h2, h]
      rw [e1]
      refine br_f (nI_pos (by omega)) (nm_r (nI_1 j) ?_)
      refine pk_eq m 47 (fun z => nm_r (nI_1 j) ?_) (fun z => ?_)
      · refine ih (j + 1) _ wc wl wa (by omega) (Or.inl ⟨rfl, ?_⟩)
        rw [z] at hc
        exact hc
      · refine bk_search hac (s := m + 1) (by omega) ok hB hb rfl (nI_1 m) rfl (fun r' wc' wl' wa' hr => nm_r (nI_1 j) ?_)
        have K := bk_at_of (by omega) hr
        rw [hc] at K
        exact ih (j + 1) r' wc' wl' wa' (by omega) K
theorem bk_days {post : Int32 → St2 → Prop} {ac : Nat} {P : Nat → Int} {b : Int} (hac : ac < 4) (ok : bk_ok a6 a7 a8 (128 * ac) P) (hB : bk_B P) (hb : -2147483648 ≤ b ∧ b < 2147483648) {p0 p1 : Int32} (h0 : p0 = nI ac) (h1 : p1 = bk_I b)
    (H : ∀ wc wl wa, post (nI (bk_cnt P b 48)) (f0, f1, f2, f3, wc, wl, wa, a1, a2, a3, a4, a5, a6, a7, a8, a9)) :
    wpX_daysBelow post (f0, f1, f2, f3, f4, f5, f6, a1, a2, a3, a4, a5, a6, a7, a8, a9) p0 p1 := by
  subst h0 h1
  unfold wpX_daysBelow
  refine bk_isAcc hac rfl (br_f (by decide) ?_)
  refine bk_search hac (s := 0) (by omega) ok hB hb rfl rfl rfl (fun r wc wl wa hr => ⟨49, ?_⟩)
  exact bk_daysL hac ok hB hb H 48 0 r wc wl wa rfl (bk_at_of (by omega) hr)
/-- the last of the 64 days below the bound -/
def bk_la (P : Nat → Int) (b : Int) (r : Int32) : Prop := (r = -1 ∧ ∀ k, 0 < k → k ≤ 64 → b ≤ P k) ∨ (∃ m, m < 64 ∧ P (m + 1) < b ∧ (∀ k, m + 1 < k → k ≤ 64 → b ≤ P k) ∧ r = nI (min m 47))
theorem bk_lastL {post : Int32 → Prop} {ac : Nat} {P : Nat → Int} {b : Int} (hac : ac < 4) (ok : bk_ok a6 a7 a8 (128 * ac) P) (hB : bk_B P) (hb : -2147483648 ≤ b ∧ b < 2147483648)
    (H : ∀ r, bk_la P b r → post r) :
    ∀ f i n, f + i = 6 → 64 ≤ n * 2 ^ f → (n + 1) * 2 ^ f ≤ 128 → 1 ≤ n → n < 128 → (∃ k, bk_st n < k ∧ k ≤ bk_st n + bk_wi n ∧ P k < b) → (∀ k, bk_st n + bk_wi n < k → k ≤ 64 → b ≤ P k) →
      wX_lastBelow_29 post (bk_I b) (nI (128 * ac)) f0 f1 f2 f3 f4 f5 f6 a1 a2 a3 a4 a5 a6 a7 a8 a9 (f + 1) (nI n) (bk_I (P (bk_st n))) (nI i) := by
  intro f
  induction f with
  | zero =>
    intro i n e h1 h2 h3 h4 h5 h6
    obtain rfl : i = 6 := by omega
    obtain ⟨w1, w2⟩ := bk_leaf n h4 (by omega)
    obtain ⟨k, k1, k2, k3⟩ := h5
    rw [w1, w2] at h6 k2
    rw [w2] at k1
    have hk : k = n - 64 + 1 := by omega
    rw [hk] at k3
    refine pk_le 6 6 (fun _ => nm_r (show nI n - 64 = nI (n - 64) from pk_sub (a := n) (b := 64) (by omega)) (pk_le (n - 64) 47 (fun z => ?_) (fun z => ?_))) (fun z => absurd z (by omega))
    · exact H _ (Or.inr ⟨n - 64, by omega, k3, h6, by rw [Nat.min_eq_left z]⟩)
    · exact H _ (Or.inr ⟨n - 64, by omega, k3, h6, by rw [Nat.min_eq_right (by omega)]; rfl⟩)
  | succ f ih =>
    intro i n e h1 h2 h3 h4 h5 h6
    have pp : 1 ≤ 2 ^ f := Nat.two_pow_pos f
    have pw : n * 2 ^ (f + 1) = 2 * n * 2 ^ f := by
      rw [Nat.pow_succ, Nat.mul_comm 2 n, Nat.mul_assoc, Nat.mul_comm 2]
    have pw1 : (n + 1) * 2 ^ (f + 1) = (2 * n + 1 + 1) * 2 ^ f := by
      rw [Nat.pow_succ, show 2 * n + 1 + 1 = (n + 1) * 2 by omega, Nat.mul_assoc, Nat.mul_comm 2]
    have pw2 : 2 * n * 2 ^ f ≤ (2 * n + 1) * 2 ^ f := Nat.mul_le_mul_right _ (by omega)
    have pw3 : (2 * n + 1) * 2 ^ f ≤ (2 * n + 1 + 1) * 2 ^ f := Nat.mul_le_mul_right _ (by omega)
    have pw4 : (2 * n + 1 + 1) * 1 ≤ (2 * n + 1 + 1) * 2 ^ f := Nat.mul_le_mul_left _ pp
    rw [pw] at h1
    rw [pw1] at h2
    have hn : n < 64 := by
      have := Nat.le_trans pw4 h2
      omega
    refine pk_le 6 i (fun z => absurd z (by omega)) (fun _ => ?_)
    refine nm_r (pk_mul 2 n) ?_
    obtain ⟨k1, k2, k3, k4⟩ := bk_kid n hn h3
    obtain ⟨o1, _, _⟩ := ok (2 * n) (by omega) (by omega)
    obtain ⟨_, ⟨v, o2, m1, k0, q1, q2, q3⟩, _⟩ := ok (2 * n + 1) (by omega) (by omega)
    rw [k3] at o1
    rw [k4] at m1 q1 q2 q3
    rw [k2] at m1 q2
    have ez : nI (128 * ac) + nI (2 * n) = nI (128 * ac + 2 * n) := nI_add _ _
    have cz : (nI (128 * ac) + nI (2 * n)).toNatClampNeg = 128 * ac + 2 * n := pk_cl _ ez (by omega)
    have iz : vp_in (nI (128 * ac) + nI (2 * n)) 512 := pk_in _ 512 (by omega) ez
    have ey : nI (128 * ac) + nI (2 * n) + 1 = nI (128 * ac + (2 * n + 1)) := by rw [ez, nI_1, Nat.add_assoc]
    have cy : (nI (128 * ac) + nI (2 * n) + 1).toNatClampNeg = 128 * ac + (2 * n + 1) := pk_cl _ ey (by omega)
    have iy : vp_in (nI (128 * ac) + nI (2 * n) + 1) 512 := pk_in _ 512 (by omega) ey
    have p1 := hB.2 (bk_st n + bk_wi (2 * n))
    have p2 := hB.2 k0
    refine ⟨iz, nm_r (e' := bk_I (P (bk_st n + bk_wi (2 * n)))) ?_ ⟨iy, ?_⟩⟩
    · rw [cz, o1, bk_add]
      congr 1
      omega
    · have ev : bk_I (P (bk_st n + bk_wi (2 * n))) + a7 (nI (128 * ac) + nI (2 * n) + 1).toNatClampNeg = bk_I (P (bk_st n + bk_wi (2 * n)) + v) := by
        rw [cy, o2, bk_add]
      refine bk_le _ _ rfl ev hb (by omega) (fun c => nm_r (nI_1 i) ?_) (fun c => nm_r (nI_1 (2 * n)) (nm_r (nI_1 i) ?_))
      · obtain ⟨k, g1, g2, g3⟩ := h5
        have K := ih (i + 1) (2 * n) (by omega) h1 (Nat.le_trans pw3 h2) (by omega) (by omega) ⟨k, by rw [k3]; exact g1, ?_, g3⟩ (fun j j1 j2 => ?_)
        · rw [k3] at K
          exact K
        · rw [k3]
          apply Classical.byContradiction
          intro g
          have := m1 k (by omega) (by omega)
          omega
        · rw [k3] at j1
          by_cases g : j ≤ bk_st n + bk_wi n
          · have := m1 j (by omega) (by omega)
            omega
          · exact h6 j (by omega) j2
      · have K := ih (i + 1) (2 * n + 1) (by omega) (Nat.le_trans h1 pw2) h2 (by omega) (by omega) ⟨k0, by rw [k4]; exact q1, by rw [k4, k2]; exact q2, by omega⟩ (fun j j1 j2 => h6 j (by rw [k4, k2] at j1; omega) j2)
        rw [k4] at K
        exact K
theorem bk_last {post : Int32 → Prop} {ac : Nat} {P : Nat → Int} {b : Int} (hac : ac < 4) (ok : bk_ok a6 a7 a8 (128 * ac) P) (hB : bk_B P) (hb : -2147483648 ≤ b ∧ b < 2147483648) {p0 p1 : Int32} (h0 : p0 = nI ac) (h1 : p1 = bk_I b)
    (H : ∀ r, bk_la P b r → post r) :
    wpX_lastBelow post (f0, f1, f2, f3, f4, f5, f6, a1, a2, a3, a4, a5, a6, a7, a8, a9) p0 p1 := by
  subst h0 h1
  unfold wpX_lastBelow
  refine nm_r (pk_mul 128 ac) ?_
  have ez : nI (128 * ac) + 1 = nI (128 * ac + 1) := nI_1 _
  have cz : (nI (128 * ac) + 1).toNatClampNeg = 128 * ac + 1 := pk_cl _ ez (by omega)
  have iz : vp_in (nI (128 * ac) + 1) 512 := pk_in _ 512 (by omega) ez
  obtain ⟨_, ⟨v, o2, m1, k0, q1, q2, q3⟩, _⟩ := ok 1 (by omega) (by omega)
  rw [show bk_st 1 = 0 by decide, show bk_wi 1 = 64 by decide] at m1
  rw [show bk_st 1 = 0 by decide] at q1 q2 q3
  rw [show bk_wi 1 = 64 by decide] at q2
  have z0 := hB.1
  have p2 := hB.2 k0
  have ev : a7 (nI (128 * ac) + 1).toNatClampNeg = bk_I v := by rw [cz, o2]
  refine ⟨iz, bk_lt _ _ ev rfl (by omega) hb (fun c => ⟨7, ?_⟩) (fun c => ?_)⟩
  · have K := bk_lastL (f0 := f0) (f1 := f1) (f2 := f2) (f3 := f3) (f4 := f4) (f5 := f5) (f6 := f6) (a1 := a1) (a2 := a2) (a3 := a3) (a4 := a4) (a5 := a5) (a9 := a9) hac ok hB hb H 6 0 1 rfl (by decide) (by decide) (by omega) (by omega) ⟨k0, q1, q2, by omega⟩ (fun k g1 g2 => absurd g1 (by rw [show bk_st 1 = 0 by decide, show bk_wi 1 = 64 by decide]; omega))
    rw [show bk_st 1 = 0 by decide, z0] at K
    exact K
  · refine H _ (Or.inl ⟨rfl, fun k g1 g2 => ?_⟩)
    have := m1 k g1 (by omega)
    omega
end bk_sec5
end
section
section bk_sec6
variable {f0 f1 f2 f3 f4 f5 f6 : Int32} {a1 a2 a3 a4 a5 a6 a7 a8 a9 : Nat → Int32}
theorem bk_lastI (t : Nat) : nI t = bk_I (((t + 1 : Nat) : Int) - 1) := by
  rw [bk_nI]
  congr 1
  omega
theorem bk_lowest {post : Int32 → St2 → Prop} {ac s t : Nat} {P : Nat → Int} (hac : ac < 4) (hs : s ≤ t) (ht : t < 48) (ok : bk_ok a6 a7 a8 (128 * ac) P) (hB : bk_B P) {p0 p1 p2 : Int32} (h0 : p0 = nI ac) (h1 : p1 = nI s) (h2 : p2 = nI t)
    (H : ∀ r wc wl wa, bk_lo P s (t + 1) r → post r (f0, f1, f2, f3, wc, wl, wa, a1, a2, a3, a4, a5, a6, a7, a8, a9)) :
    wpX_lowest post (f0, f1, f2, f3, f4, f5, f6, a1, a2, a3, a4, a5, a6, a7, a8, a9) p0 p1 p2 := by
  subst h0 h1 h2
  unfold wpX_lowest
  refine bk_isAcc hac rfl (br_f (by decide) ?_)
  refine bk_isStr hs ht rfl rfl (br_f (by decide) ?_)
  exact bk_lowestIn hac (by omega) (by omega) ok hB rfl rfl (bk_lastI t) (fun r wc wl wa h => H r wc wl wa h)
theorem bk_balance {post : Int32 → St2 → Prop} {ac t : Nat} {P : Nat → Int} (hac : ac < 4) (ht : t < 48) (ok : bk_ok a6 a7 a8 (128 * ac) P) (hB : bk_B P) {p0 p1 : Int32} (h0 : p0 = nI ac) (h1 : p1 = nI t)
    (H : ∀ r wc wl wa, r = bk_I (P (t + 1)) → post r (f0, f1, f2, f3, wc, wl, wa, a1, a2, a3, a4, a5, a6, a7, a8, a9)) :
    wpX_balance post (f0, f1, f2, f3, f4, f5, f6, a1, a2, a3, a4, a5, a6, a7, a8, a9) p0 p1 := by
  subst h0 h1
  unfold wpX_balance
  refine bk_isAcc hac rfl (br_f (by decide) ?_)
  refine bk_isDay ht rfl (br_f (by decide) ?_)
  refine bk_walk (s := 0) (l := t + 1) hac (by omega) (by omega) ok hB rfl rfl (bk_lastI t) (fun wc wl wa h => H wc wc wl wa ?_)
  have z := hB.1
  rw [h.2.1]
  congr 1
  omega
theorem bk_total {post : Int32 → St2 → Prop} {ac : Nat} {P : Nat → Int} (hac : ac < 4) (ok : bk_ok a6 a7 a8 (128 * ac) P) (hB : bk_B P) {p0 : Int32} (h0 : p0 = nI ac)
    (H : ∀ r wc wl wa, r = bk_I (bk_ar P 0 48) → post r (f0, f1, f2, f3, wc, wl, wa, a1, a2, a3, a4, a5, a6, a7, a8, a9)) :
    wpX_total post (f0, f1, f2, f3, f4, f5, f6, a1, a2, a3, a4, a5, a6, a7, a8, a9) p0 0 47 := by
  subst h0
  unfold wpX_total
  refine bk_isAcc hac rfl (br_f (by decide) ?_)
  refine bk_isStr (n := 0) (m := 47) (by omega) (by omega) rfl rfl (br_f (by decide) ?_)
  refine bk_walk (s := 0) (l := 0) hac (by omega) (by omega) ok hB rfl rfl (by decide) (fun wc wl wa h => ?_)
  refine bk_walk (s := 0) (l := 48) hac (by omega) (by omega) ok hB rfl rfl (by decide) (fun wc' wl' wa' h' => H _ _ _ _ ?_)
  rw [h.2.1, h'.2.2.2, show ((47 : Int32) - 0) + 1 = bk_I 48 by decide, bk_mul, bk_add]
  congr 1
  rw [show P 0 - P 0 = 0 by omega, Int.zero_mul, Int.add_zero]
theorem bk_free {post : Int32 → St2 → Prop} {ac s : Nat} {P : Nat → Int} (hac : ac < 4) (hs : s < 48) (ok : bk_ok a6 a7 a8 (128 * ac) P) (hB : bk_B P) (hP : ∀ k, 0 ≤ P k) (h5 : a5 ac = 0) {p0 p1 : Int32} (h0 : p0 = nI ac) (h1 : p1 = nI s)
    (H : ∀ r wc wl wa, bk_lo P s 48 r → post r (f0, f1, f2, f3, wc, wl, wa, a1, a2, a3, a4, a5, a6, a7, a8, a9)) :
    wpX_free post (f0, f1, f2, f3, f4, f5, f6, a1, a2, a3, a4, a5, a6, a7, a8, a9) p0 p1 := by
  subst h0 h1
  unfold wpX_free
  refine bk_isAcc hac rfl (br_f (by decide) ?_)
  refine bk_isDay hs rfl (br_f (by decide) ?_)
  refine bk_lowestIn (l := 48) hac hs (by omega) ok hB rfl rfl (by decide) (fun r wc wl wa h => ⟨pk_in ac 4 hac, nm_r (e' := r) ?_ ?_⟩)
  · obtain ⟨v, e, _⟩ := h
    rw [nI_clamp (by omega), h5, e, show (0 : Int32) = bk_I 0 by decide, bk_sub, Int.sub_zero]
  · have K := H r wc wl wa h
    obtain ⟨v, e, _, k, _, _, ek⟩ := h
    have p1 := hP k
    have p2 := hB.2 k
    exact bk_le 0 v (by decide) e (by omega) (by omega) (fun _ => K) (fun z => absurd z (by omega))
theorem bk_ffree {post : Int32 → Prop} {ac i : Nat} {P : Nat → Int} (hac : ac < 4) (hi : 1 ≤ i) (hi2 : i ≤ 1000000) (ok : bk_ok a6 a7 a8 (128 * ac) P) (hB : bk_B P) (h5 : a5 ac = 0) {p0 p1 : Int32} (h0 : p0 = nI ac) (h1 : p1 = nI i)
    (H : ∀ r, bk_la P (i : Int) r → (r = 47 → post (-3)) ∧ (¬ r = 47 → post (r + 1))) :
    wpX_firstFree post (f0, f1, f2, f3, f4, f5, f6, a1, a2, a3, a4, a5, a6, a7, a8, a9) p0 p1 := by
  subst h0 h1
  unfold wpX_firstFree
  refine bk_isAcc hac rfl (br_f (by decide) ?_)
  refine pk_lt i 1 (fun z => absurd z (by omega)) (fun _ => ?_)
  refine pk_le i 1000000 (fun _ => ⟨pk_in ac 4 hac, ?_⟩) (fun z => absurd z (by omega))
  refine bk_last hac ok hB (b := (i : Int)) (by omega) rfl ?_ (fun r h => H r h)
  rw [nI_clamp (by omega), h5, bk_nI, show (0 : Int32) = bk_I 0 by decide, bk_add, Int.zero_add]
theorem bk_postW {post : Int32 → St2 → Prop} {ac d q i : Nat} {P : Nat → Int} (hq : q < 60) (hac : ac < 4) (hd : d < 48) (hi : 1 ≤ i) (hi2 : i ≤ 10000) (ok : bk_ok a6 a7 a8 (128 * ac) P) (hB : bk_B (bk_pt P d (i : Int))) (h3 : f3 = 0) {p0 p1 p2 : Int32} (h0 : p0 = nI ac) (h1 : p1 = nI d) (h2 : p2 = nI i)
    (H : ∀ b1 b2 b3 b4 c l r, bk_ok c l r (128 * ac) (bk_pt P d (i : Int)) → (∀ j, (j ≤ 128 * ac ∨ 128 * ac + 128 ≤ j) → c j = a6 j ∧ l j = a7 j ∧ r j = a8 j) → post (nI q) (nI (q + 1), f1, f2, f3, f4, f5, f6, b1, b2, b3, b4, a5, c, l, r, a9)) :
    wpX_post post (nI q, f1, f2, f3, f4, f5, f6, a1, a2, a3, a4, a5, a6, a7, a8, a9) p0 p1 p2 := by
  subst h0 h1 h2
  unfold wpX_post
  refine bk_isAcc hac rfl (br_f (by decide) ?_)
  refine bk_isDay hd rfl (br_f (by decide) ?_)
  refine br_f (nI_ne0 (by omega) (by omega)) ?_
  refine bk_lt (i : Int) (-10000) (bk_nI i) (by decide) (by omega) (by omega) (fun z => absurd z (by omega)) (fun _ => ?_)
  refine pk_le i 10000 (fun _ => ?_) (fun z => absurd z (by omega))
  refine pk_eq q 60 (fun z => absurd z (by omega)) (fun _ => ?_)
  refine br_t h3 ?_
  unfold wpX_bears
  refine pk_lt 0 i (fun _ => ?_) (fun z => absurd z (by omega))
  refine br_f (by decide) ?_
  unfold wX_post_72
  exact bk_enter hq hac hd ok hB rfl rfl (bk_nI i) (fun b1 b2 b3 b4 c l r ho hf => H b1 b2 b3 b4 c l r ho hf)
/-- transfer(9, e, y): from account 2 to account 1 -/
theorem bk_trans {post : Int32 → St2 → Prop} {e q : Nat} {P1 P2 : Nat → Int} {y : Int} (hq : q ≤ 58) (he : e < 48) (hy : -2147483648 ≤ y ∧ y < 2147483648) (ok2 : bk_ok a6 a7 a8 (128 * 2) P2) (ok1 : bk_ok a6 a7 a8 (128 * 1) P1) (hB : bk_B P2)
    (hB2 : 1 ≤ y → y ≤ 10000 → bk_B (bk_pt P2 e (-y))) (hB1 : 1 ≤ y → y ≤ 10000 → bk_B (bk_pt P1 e y)) (h3 : f3 = 0) (h5 : a5 2 = 0) {p1 p2 : Int32} (h1 : p1 = nI e) (h2 : p2 = bk_I y)
    (H3 : (y < 1 ∨ 10000 < y) → post (-3) (nI q, f1, f2, f3, f4, f5, f6, a1, a2, a3, a4, a5, a6, a7, a8, a9))
    (H5 : ∀ v wc wl wa, 1 ≤ y → y ≤ 10000 → (∀ k, e < k → k ≤ 48 → v ≤ P2 k) → (∃ k, e < k ∧ k ≤ 48 ∧ v = P2 k) → v < y → post (-5) (nI q, f1, f2, f3, wc, wl, wa, a1, a2, a3, a4, a5, a6, a7, a8, a9))
    (H1 : ∀ v wc wl wa b1 b2 b3 b4 c l r, 1 ≤ y → y ≤ 10000 → (∀ k, e < k → k ≤ 48 → v ≤ P2 k) → (∃ k, e < k ∧ k ≤ 48 ∧ v = P2 k) → y ≤ v → bk_ok c l r (128 * 2) (bk_pt P2 e (-y)) → bk_ok c l r (128 * 1) (bk_pt P1 e y) →
      post (nI q) (nI (q + 2), f1, f2, f3, wc, wl, wa, b1, b2, b3, b4, a5, c, l, r, a9)) :
    wpX_transfer post (nI q, f1, f2, f3, f4, f5, f6, a1, a2, a3, a4, a5, a6, a7, a8, a9) 9 p1 p2 := by
  subst h1 h2
  unfold wpX_transfer
  refine nm_r (e' := nI 2) (by decide) (nm_r (e' := nI 1) (by decide) ?_)
  refine br_f (by decide) (br_f (by decide) (br_f (by decide) ?_))
  refine bk_isDay he rfl (br_f (by decide) ?_)
  refine bk_lt y 1 rfl (by decide) hy (by omega) (fun z => H3 (Or.inl z)) (fun hy1 => ?_)
  refine bk_le y 10000 rfl (by decide) hy (by omega) (fun hy2 => ?_) (fun z => H3 (Or.inr z))
  refine pk_le q 58 (fun _ => ?_) (fun z => absurd z (by omega))
  refine br_t h3 ?_
  unfold wpX_bears
  refine bk_lt 0 (-y) (by decide) (bk_neg y) (by omega) (by omega) (fun z => absurd z (by omega)) (fun _ => ?_)
  refine bk_lowestIn (l := 48) (ac := 2) (by omega) he (by omega) ok2 hB rfl rfl (by decide) (fun r wc wl wa h => ⟨pk_in 2 4 (by omega), ?_⟩)
  obtain ⟨v, er, hv, hk⟩ := h
  have hv2 : -20000 ≤ v ∧ v ≤ 20000 := by
    obtain ⟨k, _, _, ek⟩ := hk
    have := hB.2 k
    omega
  refine bk_lt (v - y) 0 ?_ ?_ (by omega) (by omega) (fun z => ?_) (fun z => ?_)
  · rw [er, bk_neg, bk_add]
    congr 1
  · rw [nI_clamp (by omega), h5]
    decide
  · exact br_t rfl (H5 v wc wl wa hy1 hy2 hv hk (by omega))
  · refine br_f (by decide) ?_
    unfold wX_transfer_88
    refine bk_enter (x := -y) (by omega) (by omega) he ok2 (hB2 hy1 hy2) rfl rfl (bk_neg y) (fun b1 b2 b3 b4 c l r ho hf => ?_)
    have ok1' : bk_ok c l r (128 * 1) P1 := bk_ok_eq ok1 (fun j j1 j2 => hf j (by omega))
    refine bk_enter (x := y) (by omega) (by omega) he ok1' (hB1 hy1 hy2) rfl rfl rfl (fun b1' b2' b3' b4' c' l' r' ho' hf' => ?_)
    have ok2' : bk_ok c' l' r' (128 * 2) (bk_pt P2 e (-y)) := bk_ok_eq ho (fun j j1 j2 => hf' j (by omega))
    exact H1 v wc wl wa b1' b2' b3' b4' c' l' r' hy1 hy2 hv hk (by omega) ok2' ho'
end bk_sec6
end
section
/-! the balances that the law sets up: i from day d on, q less from day e on (account 2); q from day e on (account 1) -/
def bk_Z : Nat → Int := fun _ => 0
def bk_P2 (i d e : Nat) (q : Int) : Nat → Int := bk_pt (bk_pt bk_Z d (i : Int)) e (-q)
def bk_P1 (e : Nat) (q : Int) : Nat → Int := bk_pt bk_Z e q
theorem bk_P2v (i d e : Nat) (q : Int) (k : Nat) : bk_P2 i d e q k = (if d < k then (i : Int) else 0) + (if e < k then -q else 0) := by
  show 0 + (if d < k then (i : Int) else 0) + (if e < k then -q else 0) = _
  rw [Int.zero_add]
theorem bk_P1v (e : Nat) (q : Int) (k : Nat) : bk_P1 e q k = (if e < k then q else 0) := by
  show 0 + (if e < k then q else 0) = _
  rw [Int.zero_add]
theorem bk_P2o (i d e : Nat) : bk_pt bk_Z d (i : Int) = bk_P2 i d e 0 := by
  funext k
  rw [bk_P2v]
  show 0 + (if d < k then (i : Int) else 0) = _
  split <;> split <;> omega
theorem bk_P1o (e : Nat) : bk_Z = bk_P1 e 0 := by
  funext k
  rw [bk_P1v]
  show (0 : Int) = _
  split <;> rfl
theorem bk_P2b {i d e : Nat} {q : Int} (hi : i ≤ 4096) (h0 : 0 ≤ q) (hq : q ≤ 10000) : bk_B (bk_P2 i d e q) := by
  refine ⟨?_, fun k => ?_⟩
  · rw [bk_P2v, if_neg (by omega), if_neg (by omega)]
    rfl
  · rw [bk_P2v]
    split <;> split <;> omega
theorem bk_P1b {e : Nat} {q : Int} (h0 : 0 ≤ q) (hq : q ≤ 10000) : bk_B (bk_P1 e q) := by
  refine ⟨?_, fun k => ?_⟩
  · rw [bk_P1v, if_neg (by omega)]
  · rw [bk_P1v]
    split <;> omega
theorem bk_ml (x : Int) (d n : Nat) : x * ((n + 1 - d : Nat) : Int) = x * ((n - d : Nat) : Int) + (if d < n + 1 then x else 0) := by
  by_cases h : d < n + 1
  · rw [if_pos h, show n + 1 - d = n - d + 1 by omega, show ((n - d + 1 : Nat) : Int) = ((n - d : Nat) : Int) + 1 by omega, Int.mul_add, Int.mul_one]
  · rw [if_neg h, show n + 1 - d = 0 by omega, show n - d = 0 by omega]
    omega
theorem bk_P2ar (i d e : Nat) (q : Int) (n : Nat) : bk_ar (bk_P2 i d e q) 0 n = (i : Int) * ((n - d : Nat) : Int) - q * ((n - e : Nat) : Int) := by
  induction n with
  | zero =>
    show (0 : Int) = (i : Int) * ((0 - d : Nat) : Int) - q * ((0 - e : Nat) : Int)
    rw [Nat.zero_sub, Nat.zero_sub]
    omega
  | succ n ih =>
    show bk_ar (bk_P2 i d e q) 0 n + (bk_P2 i d e q (0 + n + 1) - bk_P2 i d e q 0) = _
    rw [ih, bk_ml, bk_ml, bk_P2v, bk_P2v, Nat.zero_add, if_neg (show ¬ d < 0 by omega), if_neg (show ¬ e < 0 by omega)]
    generalize (i : Int) * ((n - d : Nat) : Int) = A
    generalize q * ((n - e : Nat) : Int) = B
    split <;> split <;> omega
theorem bk_cnt1 {i d e : Nat} (b : Int) (hd : d < 48) : bk_cnt (bk_P2 i d e 0) b 48 = (if 0 < b then d else 0) + (if (i : Int) < b then 48 - d else 0) := by
  have s1 := bk_cnt_seg (P := bk_P2 i d e 0) (b := b) (v := 0) (s := 0) d (fun k h1 h2 => by
    rw [bk_P2v, if_neg (by omega)]
    split <;> rfl)
  have s2 := bk_cnt_seg (P := bk_P2 i d e 0) (b := b) (v := (i : Int)) (s := d) (48 - d) (fun k h1 h2 => by
    rw [bk_P2v, if_pos h1]
    split <;> omega)
  rw [Nat.zero_add] at s1
  rw [show d + (48 - d) = 48 by omega, s1] at s2
  rw [s2]
  show 0 + _ + _ = _
  rw [Nat.zero_add]
theorem bk_cnt2 {i d e : Nat} {q : Int} (b : Int) (hde : d ≤ e) (he : e < 48) : bk_cnt (bk_P2 i d e q) b 48 = (if 0 < b then d else 0) + (if (i : Int) < b then e - d else 0) + (if (i : Int) - q < b then 48 - e else 0) := by
  have s1 := bk_cnt_seg (P := bk_P2 i d e q) (b := b) (v := 0) (s := 0) d (fun k h1 h2 => by
    rw [bk_P2v, if_neg (by omega), if_neg (by omega)]
    rfl)
  have s2 := bk_cnt_seg (P := bk_P2 i d e q) (b := b) (v := (i : Int)) (s := d) (e - d) (fun k h1 h2 => by
    rw [bk_P2v, if_pos h1, if_neg (by omega)]
    omega)
  have s3 := bk_cnt_seg (P := bk_P2 i d e q) (b := b) (v := (i : Int) - q) (s := e) (48 - e) (fun k h1 h2 => by
    rw [bk_P2v, if_pos (by omega), if_pos h1]
    omega)
  rw [Nat.zero_add] at s1
  rw [show d + (e - d) = e by omega, s1] at s2
  rw [show e + (48 - e) = 48 by omega, s2] at s3
  rw [s3]
  show 0 + _ + _ + _ = _
  rw [Nat.zero_add]
/-- what the law knows behind the transfer: not paid (q = 0), or paid (q = y) -/
def bk_F (i d e : Nat) (q y : Int) (x : Int32) : Prop := (x = 0 ∧ q = 0) ∨ (x = 1 ∧ q = y ∧ 1 ≤ q ∧ q ≤ i ∧ d ≤ e)
def bk_H (i d e : Nat) (q y : Int) (x : Int32) (a5 a6 a7 a8 : Nat → Int32) : Prop := d < 48 ∧ e < 48 ∧ 1 ≤ i ∧ i ≤ 4096 ∧ bk_F i d e q y x ∧ a5 2 = 0 ∧ bk_ok a6 a7 a8 (128 * 2) (bk_P2 i d e q) ∧ bk_ok a6 a7 a8 (128 * 1) (bk_P1 e q)
theorem bk_Fq {i d e : Nat} {q y : Int} {x : Int32} (hi : i ≤ 4096) (h : bk_F i d e q y x) : 0 ≤ q ∧ q ≤ 4096 ∧ q ≤ i ∧ (q = 0 ∨ d ≤ e) := by
  rcases h with ⟨_, h⟩ | ⟨_, _, h1, h2, h3⟩ <;> omega
theorem bk_FB {i d e : Nat} {q y : Int} {x : Int32} (hi : i ≤ 4096) (h : bk_F i d e q y x) : bk_B (bk_P2 i d e q) := by
  have := bk_Fq hi h
  exact bk_P2b hi (by omega) (by omega)
theorem bk_FB1 {i d e : Nat} {q y : Int} {x : Int32} (hi : i ≤ 4096) (h : bk_F i d e q y x) : bk_B (bk_P1 e q) := by
  have := bk_Fq hi h
  exact bk_P1b (by omega) (by omega)
theorem bk_Fp {i d e : Nat} {q y : Int} {x : Int32} (hi : i ≤ 4096) (h : bk_F i d e q y x) : ∀ k, 0 ≤ bk_P2 i d e q k := by
  have := bk_Fq hi h
  intro k
  rw [bk_P2v]
  split <;> split <;> omega
theorem bk_ok0 (b : Nat) : bk_ok (fun _ => 0) (fun _ => 0) (fun _ => 0) b bk_Z := by
  intro n h1 h2
  have hw := (bk_nin n h2 h1).2
  refine ⟨by show (0 : Int32) = bk_I (0 - 0); decide, ⟨0, by show (0 : Int32) = bk_I 0; decide, fun k _ _ => by show (0 : Int) ≤ 0 - 0; decide, bk_st n + 1, by omega, by omega, rfl⟩, ?_⟩
  have z : ∀ w, bk_ar bk_Z (bk_st n) w = 0 := by
    intro w
    induction w with
    | zero => rfl
    | succ w ih =>
      show bk_ar bk_Z (bk_st n) w + (0 - 0) = 0
      rw [ih]
      rfl
  rw [z]
  show (0 : Int32) = bk_I 0
  decide
end
section
section bk_sec8
variable {post : Int32 → St0 → Prop} {mc ms kc ks : Nat} {f0 f1 f2 f3 f4 f5 f6 : Int32} {a1 a2 a3 a4 a5 a6 a7 a8 a9 : Nat → Int32}
theorem bk_t352 {i d e : Nat} {q y : Int} {x10 x11 z0 z1 : Int32} (hp : post 1 ()) (h : bk_H i d e q y x10 a5 a6 a7 a8) (h11 : x11 = bk_I ((i : Int) - q)) (hz : z1 = z0) :
    wL_lawOf_352 post mc ms (nI d) (nI e) x11 z0 z1 kc ks f0 f1 f2 f3 f4 f5 f6 a1 a2 a3 a4 a5 a6 a7 a8 a9 := by
  obtain ⟨hd, he, hi, hi2, hF, h5, ok2, ok1⟩ := h
  have hq := bk_Fq hi2 hF
  unfold wL_lawOf_352
  refine br_t hz ?_
  refine bk_free (ac := 2) (by omega) he ok2 (bk_FB hi2 hF) (bk_Fp hi2 hF) h5 rfl rfl (fun r wc wl wa h => ?_)
  obtain ⟨v, er, hv, k, k1, k2, k3⟩ := h
  have v48 := hv 48 he (by omega)
  have v1 := hv (e + 1) (by omega) (by omega)
  have v0 := bk_Fp hi2 hF k
  rw [bk_P2v, if_pos hd, if_pos he] at v48
  rw [bk_P2v] at k3 v1
  refine pk_le d e (fun z => ?_) (fun z => ?_)
  · rw [if_pos (by omega), if_pos k1] at k3
    unfold wL_lawOf_376
    refine br_t ?_ hp
    rw [er, h11]
    exact congrArg bk_I (by omega)
  · unfold wL_lawOf_376
    refine br_t ?_ hp
    rw [if_neg (by omega), if_pos (by omega)] at v1
    rw [er, show v = 0 by omega]
    decide
theorem bk_t317 {i d e : Nat} {q y b : Int} {x4 x10 x11 x14 : Int32} (hp : post 1 ()) (h : bk_H i d e q y x10 a5 a6 a7 a8) (hb : -2147483648 ≤ b ∧ b < 2147483648) (h4 : x4 = bk_I b) (h11 : x11 = bk_I ((i : Int) - q)) (h14 : x14 = nI (bk_cnt (bk_P2 i d e q) b 48)) :
    wL_lawOf_317 post mc ms x4 (nI d) (nI e) (nI i) x10 x11 x14 kc ks f0 f1 f2 f3 f4 f5 f6 a1 a2 a3 a4 a5 a6 a7 a8 a9 := by
  have h' := h
  obtain ⟨hd, he, hi, hi2, hF, h5, ok2, ok1⟩ := h'
  unfold wL_lawOf_317
  refine bk_days (ac := 2) (b := b) (by omega) ok2 (bk_FB hi2 hF) hb rfl h4 (fun wc wl wa => br_t h14.symm ?_)
  refine bk_ffree (ac := 2) (by omega) hi (by omega) ok2 (bk_FB hi2 hF) h5 rfl rfl (fun r hr => ?_)
  rcases hF with ⟨e10, eq⟩ | ⟨e10, eq, q1, q2, hde⟩
  · have lo : ∀ k, 0 < k → k ≤ d → bk_P2 i d e q k = 0 := fun k _ h2 => by
      rw [bk_P2v, if_neg (by omega), eq]
      split <;> rfl
    have up : ∀ k, d < k → bk_P2 i d e q k = i := fun k h1 => by
      rw [bk_P2v, if_pos h1, eq]
      split <;> omega
    rcases hr with ⟨er, hk⟩ | ⟨m, hm, h1, h2, er⟩
    · have d0 : d = 0 := by
        apply Classical.byContradiction
        intro g
        have t1 := hk d (by omega) (by omega)
        rw [lo d (by omega) (Nat.le_refl d)] at t1
        omega
      rw [er]
      refine br_f (by decide) (br_t e10 (bk_t352 hp h h11 ?_))
      rw [d0]
      decide
    · have t1 : m + 1 ≤ d := by
        apply Classical.byContradiction
        intro g
        rw [up (m + 1) (by omega)] at h1
        omega
      have t2 : m + 1 = d := by
        apply Classical.byContradiction
        intro g
        have t3 := h2 d (by omega) (by omega)
        rw [lo d (by omega) (Nat.le_refl d)] at t3
        omega
      rw [er, Nat.min_eq_left (by omega)]
      refine pk_eq m 47 (fun z => absurd z (by omega)) (fun _ => br_t e10 (bk_t352 hp h h11 ?_))
      rw [nI_1, t2]
  · have up : bk_P2 i d e q 64 = i - q := by
      rw [bk_P2v, if_pos (by omega), if_pos (by omega)]
      omega
    rcases hr with ⟨er, hk⟩ | ⟨m, hm, h1, h2, er⟩
    · have t1 := hk 64 (by omega) (by omega)
      omega
    · have t1 : m = 63 := by
        apply Classical.byContradiction
        intro g
        have t3 := h2 64 (by omega) (by omega)
        omega
      rw [er, t1]
      refine br_t (by decide) (br_f (by rw [e10]; decide) (bk_t352 hp h h11 rfl))
/-- the days that the payment covers -/
def bk_lt8 (e : Nat) (x : Int32) (n : Nat) : Prop := (x = 0 ∧ n = 0) ∨ (x = 1 ∧ n = 48 - e)
theorem bk_t296 {i d e n : Nat} {q y b : Int} {x3 x4 x10 x11 x12 x14 : Int32} (hp : post 1 ()) (h : bk_H i d e q y x10 a5 a6 a7 a8) (hb : -2147483648 ≤ b ∧ b < 2147483648) (h3 : x3 = bk_I y) (h4 : x4 = bk_I b) (h11 : x11 = bk_I ((i : Int) - q)) (hn : bk_lt8 e x10 n) (h12 : x12 = nI n) (h14 : x14 = nI ((if 0 < b then d else 0) + (if (i : Int) < b then 48 - d - n else 0))) :
    wL_lawOf_296 post mc ms x3 x4 (nI d) (nI e) (nI i) x10 x11 x12 x14 kc ks f0 f1 f2 f3 f4 f5 f6 a1 a2 a3 a4 a5 a6 a7 a8 a9 := by
  have h' := h
  obtain ⟨hd, he, hi, hi2, hF, h5, ok2, ok1⟩ := h'
  unfold wL_lawOf_296
  rcases hF with ⟨e10, eq⟩ | ⟨e10, eq, q1, q2, hde⟩
  · have n0 : n = 0 := by
      rcases hn with ⟨_, g⟩ | ⟨g, _⟩
      · exact g
      · rw [e10] at g
        exact absurd g (by decide)
    have K : x14 = nI (bk_cnt (bk_P2 i d e q) b 48) := by
      rw [h14, eq, bk_cnt1 b hd, n0, Nat.sub_zero]
    exact br_c (fun _ => bk_t317 hp h hb h4 h11 K) (fun _ => br_t e10 (bk_t317 hp h hb h4 h11 K))
  · have n0 : n = 48 - e := by
      rcases hn with ⟨g, _⟩ | ⟨_, g⟩
      · rw [e10] at g
        exact absurd g (by decide)
      · exact g
    have es : nI i - x3 = bk_I ((i : Int) - q) := by rw [h3, bk_nI, bk_sub, eq]
    have e1 : 48 - d - n = e - d := by omega
    rw [e1] at h14
    refine bk_le b ((i : Int) - q) h4 es hb (by omega) (fun c => ?_) (fun c => br_f (by rw [e10]; decide) ?_)
    · refine bk_t317 hp h hb h4 h11 ?_
      rw [h14, bk_cnt2 b hde he, if_neg (show ¬ (i : Int) - q < b by omega), Nat.add_zero]
    · refine nm_e (bk_t317 hp h hb h4 h11 ?_)
      rw [h14, h12, nI_add, bk_cnt2 b hde he, if_pos c, n0]
theorem bk_t276 {i d e n : Nat} {q y b : Int} {x3 x4 x10 x11 x12 x14 : Int32} (hp : post 1 ()) (h : bk_H i d e q y x10 a5 a6 a7 a8) (hb : -2147483648 ≤ b ∧ b < 2147483648) (h3 : x3 = bk_I y) (h4 : x4 = bk_I b) (h11 : x11 = bk_I ((i : Int) - q)) (hn : bk_lt8 e x10 n) (hn2 : n ≤ 48 - d) (h12 : x12 = nI n) (h14 : x14 = nI (if 0 < b then d else 0)) :
    wL_lawOf_276 post mc ms x3 x4 (nI d) (nI e) (nI i) x10 x11 x12 x14 kc ks f0 f1 f2 f3 f4 f5 f6 a1 a2 a3 a4 a5 a6 a7 a8 a9 := by
  have h' := h
  obtain ⟨hd, he, hi, hi2, hF, h5, ok2, ok1⟩ := h'
  unfold wL_lawOf_276
  refine bk_le b (i : Int) h4 (bk_nI i) hb (by omega) (fun c => ?_) (fun c => nm_e ?_)
  · refine bk_t296 hp h hb h3 h4 h11 hn h12 ?_
    rw [h14, if_neg (show ¬ (i : Int) < b by omega), Nat.add_zero]
  · refine bk_t296 hp h hb h3 h4 h11 hn h12 ?_
    rw [h14, if_pos c, h12, show (48 : Int32) - nI d = nI (48 - d) from pk_sub (a := 48) (b := d) (by omega), pk_sub hn2, nI_add]
theorem bk_t242 {i d e n : Nat} {q y b : Int} {x3 x4 x10 x11 x12 z0 z1 : Int32} (hp : post 1 ()) (h : bk_H i d e q y x10 a5 a6 a7 a8) (hb : -2147483648 ≤ b ∧ b < 2147483648) (h3 : x3 = bk_I y) (h4 : x4 = bk_I b) (h11 : x11 = bk_I ((i : Int) - q)) (hn : bk_lt8 e x10 n) (hn2 : n ≤ 48 - d) (h12 : x12 = nI n) (hz : z1 - z0 = bk_I (bk_ar (bk_P2 i d e q) 0 48)) :
    wL_lawOf_242 post mc ms x3 x4 (nI d) (nI e) (nI i) x10 x11 x12 z0 z1 kc ks f0 f1 f2 f3 f4 f5 f6 a1 a2 a3 a4 a5 a6 a7 a8 a9 := by
  have h' := h
  obtain ⟨hd, he, hi, hi2, hF, h5, ok2, ok1⟩ := h'
  unfold wL_lawOf_242
  refine nm_r hz ?_
  refine bk_total (ac := 2) (by omega) ok2 (bk_FB hi2 hF) rfl (fun r wc wl wa hr => br_t hr ?_)
  refine bk_le b 0 h4 (by decide) hb (by omega) (fun c => ?_) (fun c => nm_e ?_)
  · refine bk_t276 hp h hb h3 h4 h11 hn hn2 h12 ?_
    rw [if_neg (by omega)]
    rfl
  · refine bk_t276 hp h hb h3 h4 h11 hn hn2 h12 ?_
    rw [if_pos c]
    exact (nI_add 0 d).trans (by rw [Nat.zero_add])
theorem bk_t219 {i d e n : Nat} {q y b : Int} {x3 x4 x10 x11 x12 : Int32} (hp : post 1 ()) (h : bk_H i d e q y x10 a5 a6 a7 a8) (hb : -2147483648 ≤ b ∧ b < 2147483648) (h3 : x3 = bk_I y) (h4 : x4 = bk_I b) (h11 : x11 = bk_I ((i : Int) - q)) (hn : bk_lt8 e x10 n) (hn2 : n ≤ 48 - d) (h12 : x12 = nI n) :
    wL_lawOf_219 post mc ms x3 x4 (nI d) (nI e) (nI i) x10 x11 x12 kc ks f0 f1 f2 f3 f4 f5 f6 a1 a2 a3 a4 a5 a6 a7 a8 a9 := by
  have h' := h
  obtain ⟨hd, he, hi, hi2, hF, h5, ok2, ok1⟩ := h'
  have e1 : nI i * (48 - nI d) = bk_I ((i : Int) * ((48 - d : Nat) : Int)) := by
    rw [show (48 : Int32) - nI d = nI (48 - d) from pk_sub (a := 48) (b := d) (by omega), bk_nI, bk_nI, bk_mul]
  unfold wL_lawOf_219
  rcases hF with ⟨e10, eq⟩ | ⟨e10, eq, q1, q2, hde⟩
  · refine br_t e10 (bk_t242 hp h hb h3 h4 h11 hn hn2 h12 ?_)
    rw [e1, bk_P2ar, eq, show (0 : Int32) = bk_I 0 by decide, bk_sub, Int.zero_mul]
  · have n0 : n = 48 - e := by
      rcases hn with ⟨g, _⟩ | ⟨_, g⟩
      · rw [e10] at g
        exact absurd g (by decide)
      · exact g
    refine br_f (by rw [e10]; decide) (bk_t242 hp h hb h3 h4 h11 hn hn2 h12 ?_)
    rw [e1, bk_P2ar, h3, h12, bk_nI, bk_mul, bk_sub, eq, n0]
theorem bk_t200 {i d e : Nat} {q y b : Int} {x3 x4 x10 x11 z0 z1 : Int32} (hp : post 1 ()) (h : bk_H i d e q y x10 a5 a6 a7 a8) (hb : -2147483648 ≤ b ∧ b < 2147483648) (h3 : x3 = bk_I y) (h4 : x4 = bk_I b) (h11 : x11 = bk_I ((i : Int) - q)) (hz : z1 = z0) :
    wL_lawOf_200 post mc ms x3 x4 (nI d) (nI e) (nI i) x10 x11 z0 z1 kc ks f0 f1 f2 f3 f4 f5 f6 a1 a2 a3 a4 a5 a6 a7 a8 a9 := by
  have h' := h
  obtain ⟨hd, he, hi, hi2, hF, h5, ok2, ok1⟩ := h'
  unfold wL_lawOf_200
  refine br_t hz ?_
  rcases hF with ⟨e10, eq⟩ | ⟨e10, eq, q1, q2, hde⟩
  · exact br_t e10 (bk_t219 (n := 0) hp h hb h3 h4 h11 (Or.inl ⟨e10, rfl⟩) (by omega) rfl)
  · exact br_f (by rw [e10]; decide) (bk_t219 (n := 48 - e) hp h hb h3 h4 h11 (Or.inr ⟨e10, rfl⟩) (by omega) (pk_sub (a := 48) (b := e) (by omega)))
theorem bk_t165 {i d e : Nat} {q y b : Int} {x3 x4 x10 x11 : Int32} (hp : post 1 ()) (h : bk_H i d e q y x10 a5 a6 a7 a8) (hb : -2147483648 ≤ b ∧ b < 2147483648) (h3 : x3 = bk_I y) (h4 : x4 = bk_I b) (h11 : x11 = bk_I ((i : Int) - q)) :
    wL_lawOf_165 post mc ms x3 x4 (nI d) (nI e) (nI i) x10 x11 kc ks f0 f1 f2 f3 f4 f5 f6 a1 a2 a3 a4 a5 a6 a7 a8 a9 := by
  have h' := h
  obtain ⟨hd, he, hi, hi2, hF, h5, ok2, ok1⟩ := h'
  have hq := bk_Fq hi2 hF
  unfold wL_lawOf_165
  refine bk_lowest (ac := 2) (t := 47) (by omega) (by omega) (by omega) ok2 (bk_FB hi2 hF) rfl rfl rfl (fun r wc wl wa hr => br_t ?_ ?_)
  · obtain ⟨v, er, hv, k, k1, k2, k3⟩ := hr
    have v48 := hv 48 hd (by omega)
    rw [bk_P2v, if_pos hd, if_pos he] at v48
    rw [bk_P2v, if_pos k1] at k3
    rw [er, h11]
    refine congrArg bk_I ?_
    split at k3 <;> omega
  · refine bk_balance (ac := 1) (by omega) he ok1 (bk_FB1 hi2 hF) rfl rfl (fun r' wc' wl' wa' hr' => ?_)
    rw [bk_P1v, if_pos (by omega)] at hr'
    rcases hF with ⟨e10, eq⟩ | ⟨e10, eq, q1, q2, hde⟩
    · refine br_t e10 (bk_t200 hp h hb h3 h4 h11 ?_)
      rw [hr', eq]
      decide
    · refine br_f (by rw [e10]; decide) (bk_t200 hp h hb h3 h4 h11 ?_)
      rw [hr', eq, h3]
theorem bk_t126 {i d e : Nat} {q y b : Int} {x3 x4 x10 z0 z1 : Int32} (hp : post 1 ()) (h : bk_H i d e q y x10 a5 a6 a7 a8) (hb : -2147483648 ≤ b ∧ b < 2147483648) (h3 : x3 = bk_I y) (h4 : x4 = bk_I b) (hz : z1 = z0) (hc : (x10 = 0 → f0 = 1) ∧ (x10 = 1 → f0 = 3)) :
    wL_lawOf_126 post mc ms x3 x4 (nI d) (nI e) (nI i) x10 z0 z1 kc ks f0 f1 f2 f3 f4 f5 f6 a1 a2 a3 a4 a5 a6 a7 a8 a9 := by
  have h' := h
  obtain ⟨hd, he, hi, hi2, hF, h5, ok2, ok1⟩ := h'
  unfold wL_lawOf_126
  refine br_t hz ?_
  unfold wpX_entries
  rcases hF with ⟨e10, eq⟩ | ⟨e10, eq, q1, q2, hde⟩
  · refine br_t e10 ?_
    unfold wL_lawOf_146
    refine br_t (hc.1 e10) (br_t e10 (bk_t165 hp h hb h3 h4 ?_))
    rw [eq, Int.sub_zero, bk_nI]
  · refine br_f (by rw [e10]; decide) ?_
    unfold wL_lawOf_146
    refine br_t (hc.2 e10) (br_f (by rw [e10]; decide) (bk_t165 hp h hb h3 h4 ?_))
    rw [h3, bk_nI, bk_sub, eq]
/-- what the law expects of the transfer: x9 (the amount fits), x10 (paid) -/
def bk_G (i d e : Nat) (y : Int) (x9 x10 : Int32) : Prop := (x9 = 0 ∧ x10 = 0 ∧ (y < 1 ∨ 10000 < y)) ∨ (x9 = 1 ∧ x10 = 0 ∧ 1 ≤ y ∧ y ≤ 10000 ∧ (e < d ∨ (i : Int) < y)) ∨ (x9 = 1 ∧ x10 = 1 ∧ 1 ≤ y ∧ y ≤ 10000 ∧ d ≤ e ∧ y ≤ i)
theorem bk_t93 {i d e : Nat} {y b : Int} {x3 x4 x9 x10 : Int32} (hp : post 1 ()) (hd : d < 48) (he : e < 48) (hi : 1 ≤ i) (hi2 : i ≤ 4096) (h5 : a5 2 = 0) (ok2 : bk_ok a6 a7 a8 (128 * 2) (bk_pt bk_Z d (i : Int))) (ok1 : bk_ok a6 a7 a8 (128 * 1) bk_Z) (hb : -2147483648 ≤ b ∧ b < 2147483648) (hy : -2147483648 ≤ y ∧ y < 2147483648) (hf3 : f3 = 0) (h3 : x3 = bk_I y) (h4 : x4 = bk_I b) (hG : bk_G i d e y x9 x10) :
    wL_lawOf_93 post mc ms x3 x4 (nI d) (nI e) (nI i) x9 x10 kc ks (nI 1) f1 f2 f3 f4 f5 f6 a1 a2 a3 a4 a5 a6 a7 a8 a9 := by
  unfold wL_lawOf_93
  have H0 : x10 = 0 → bk_H i d e 0 y x10 a5 a6 a7 a8 := fun g => ⟨hd, he, hi, hi2, Or.inl ⟨g, rfl⟩, h5, by rw [← bk_P2o]; exact ok2, by rw [← bk_P1o]; exact ok1⟩
  have hP : ∀ k, bk_pt bk_Z d (i : Int) k = if d < k then (i : Int) else 0 := fun k => by
    show 0 + (if d < k then (i : Int) else 0) = _
    rw [Int.zero_add]
  refine bk_trans (q := 1) (e := e) (y := y) (by omega) he hy ok2 ok1 (by rw [bk_P2o i d e]; exact bk_P2b hi2 (by omega) (by omega)) (fun g1 g2 => bk_P2b (d := d) (e := e) hi2 (by omega) g2) (fun g1 g2 => bk_P1b (e := e) (by omega) g2) hf3 h5 rfl h3 (fun g => ?_) (fun v wc wl wa g1 g2 hv hk g3 => ?_) (fun v wc wl wa b1 b2 b3 b4 c l r g1 g2 hv hk g3 ho2 ho1 => ?_)
  · rcases hG with ⟨e9, e10, _⟩ | ⟨_, _, j1, j2, _⟩ | ⟨_, _, j1, j2, _⟩
    · exact br_t e9 (bk_t126 hp (H0 e10) hb h3 h4 rfl ⟨fun _ => rfl, fun z => absurd z (by rw [e10]; decide)⟩)
    · omega
    · omega
  · rcases hG with ⟨_, _, j⟩ | ⟨e9, e10, _⟩ | ⟨_, _, _, _, j1, j2⟩
    · omega
    · exact br_f (by rw [e9]; decide) (br_t e10 (bk_t126 hp (H0 e10) hb h3 h4 rfl ⟨fun _ => rfl, fun z => absurd z (by rw [e10]; decide)⟩))
    · obtain ⟨k, k1, k2, k3⟩ := hk
      rw [hP, if_pos (by omega)] at k3
      omega
  · rcases hG with ⟨_, _, j⟩ | ⟨_, _, _, _, j⟩ | ⟨e9, e10, _, _, j1, j2⟩
    · omega
    · have t1 := hv (e + 1) (by omega) (by omega)
      have t2 := hv 48 he (by omega)
      rw [hP] at t1 t2
      rw [if_pos hd] at t2
      rcases j with j | j
      · rw [if_neg (by omega)] at t1
        omega
      · omega
    · exact br_f (by rw [e9]; decide) (br_f (by rw [e10]; decide) (bk_t126 (q := y) hp ⟨hd, he, hi, hi2, Or.inr ⟨e10, rfl, g1, j2, j1⟩, h5, ho2, ho1⟩ hb h3 h4 rfl ⟨fun z => absurd z (by rw [e10]; decide), fun _ => rfl⟩))
end bk_sec8
end
section
theorem bk_lawOf (p0 p1 p2 p3 p4 : Int32) {post : Int32 → St0 → Prop} (hp : post 1 ()) : wpL_lawOf post 926 14816 () p0 p1 p2 p3 p4 := by
  obtain ⟨j0, hj0, e0⟩ := pk_andE p0 (m := 63) 6 (by decide)
  obtain ⟨j2, hj2, e2⟩ := pk_andE p2 (m := 63) 6 (by decide)
  obtain ⟨j1, hj1, e1⟩ := pk_andE p1 (m := 4095) 12 (by decide)
  have hd : j0 % 48 < 48 := Nat.mod_lt _ (by omega)
  have he : j2 % 48 < 48 := Nat.mod_lt _ (by omega)
  have r0 : (p0 &&& 63) - (p0 &&& 63) / 48 * 48 = nI (j0 % 48) := by
    rw [e0]
    exact pk_rem (d := 48) (by omega) (by omega) (by omega)
  have r2 : (p2 &&& 63) - (p2 &&& 63) / 48 * 48 = nI (j2 % 48) := by
    rw [e2]
    exact pk_rem (d := 48) (by omega) (by omega) (by omega)
  have r1 : 1 + (p1 &&& 4095) = nI (1 + j1) := by
    rw [e1]
    exact nI_add 1 j1
  have hy := bk_rng p3
  have hb := bk_rng p4
  have h3 := bk_of p3
  have h4 := bk_of p4
  generalize p3.toInt = y at hy h3
  generalize p4.toInt = b at hb h4
  generalize j0 % 48 = d at hd r0
  generalize j2 % 48 = e at he r2
  have hi : 1 ≤ 1 + j1 := by omega
  have hi2 : 1 + j1 ≤ 4096 := by omega
  generalize 1 + j1 = i at hi hi2 r1
  unfold wpL_lawOf
  refine ⟨by omega, by omega, 9, 1840, by omega, by omega, ?_⟩
  unfold wpX_init
  refine ⟨by omega, by omega, by omega, by omega, by omega, by omega, by omega, by omega, by omega, by omega, by omega, by omega, by omega, by omega, by omega, by omega, by omega, by omega, ?_⟩
  refine ⟨by decide, nm_r r0 ⟨by decide, nm_r r2 (nm_r r1 ?_)⟩⟩
  refine bk_postW (q := 0) (ac := 2) (P := bk_Z) (by omega) (by omega) hd hi (by omega) (bk_ok0 _) (by rw [bk_P2o i d e]; exact bk_P2b hi2 (by omega) (by omega)) rfl rfl rfl rfl (fun b1 b2 b3 b4 c l r ho hf => ?_)
  have ok1 : bk_ok c l r (128 * 1) bk_Z := bk_ok_eq (bk_ok0 _) (fun j _ _ => hf j (by omega))
  refine br_t rfl ?_
  refine bk_lt y 1 h3 (by decide) hy (by omega) (fun z => ?_) (fun z1 => ?_)
  · unfold wL_lawOf_67 wL_lawOf_68
    refine br_t rfl ?_
    unfold wL_lawOf_92
    exact bk_t93 hp hd he hi hi2 rfl ho ok1 hb hy rfl h3 h4 (Or.inl ⟨rfl, rfl, Or.inl z⟩)
  · refine bk_lt 10000 y (by decide) h3 (by omega) hy (fun z => ?_) (fun z2 => ?_)
    · unfold wL_lawOf_67 wL_lawOf_68
      refine br_t rfl ?_
      unfold wL_lawOf_92
      exact bk_t93 hp hd he hi hi2 rfl ho ok1 hb hy rfl h3 h4 (Or.inl ⟨rfl, rfl, Or.inr z⟩)
    · unfold wL_lawOf_68
      refine br_f (by decide) ?_
      refine pk_lt e d (fun z => ?_) (fun z => ?_)
      · unfold wL_lawOf_92
        exact bk_t93 hp hd he hi hi2 rfl ho ok1 hb hy rfl h3 h4 (Or.inr (Or.inl ⟨rfl, rfl, z1, z2, Or.inl z⟩))
      · refine bk_lt (i : Int) y (bk_nI i) h3 (by omega) hy (fun g => ?_) (fun g => ?_)
        · unfold wL_lawOf_92
          exact bk_t93 hp hd he hi hi2 rfl ho ok1 hb hy rfl h3 h4 (Or.inr (Or.inl ⟨rfl, rfl, z1, z2, Or.inr g⟩))
        · exact bk_t93 hp hd he hi hi2 rfl ho ok1 hb hy rfl h3 h4 (Or.inr (Or.inr ⟨rfl, rfl, z1, z2, z, g⟩))
theorem bk_cell {post : Int32 → Prop} {L : Nat} {xs : Nat → Int32} (hL : L ≤ 5) (n : Nat) (hn : n < 5) {x : Int32} (hx : x = nI n) (H : ∀ r, post r) : wpL_cellAt post L xs () x := by
  subst hx
  exact pk_le L n (fun _ => H _) (fun z => ⟨pk_in n L z, H _⟩)
theorem i_vc (xs : Nat → Int32) (L : Nat) (hL : L ≤ 5) : wpL_law (fun r => r = 1) L xs := by
  unfold wpL_law
  refine bk_cell hL 0 (by omega) rfl (fun r1 => ?_)
  refine bk_cell hL 1 (by omega) rfl (fun r2 => ?_)
  refine bk_cell hL 2 (by omega) rfl (fun r3 => ?_)
  refine bk_cell hL 3 (by omega) rfl (fun r4 => ?_)
  refine bk_cell hL 4 (by omega) rfl (fun r5 => ?_)
  exact ⟨926, 14816, by omega, by omega, bk_lawOf r1 r2 r3 r4 r5 rfl⟩
end
