section
/-! counts, sums, boxes, the window's best: plain Lean, no program in sight -/
/-- how many places below n have p -/
def bf_cnt (p : Nat → Bool) : Nat → Nat
  | 0 => 0
  | n + 1 => bf_cnt p n + (if p n = true then 1 else 0)
theorem bf_cnt_le (p : Nat → Bool) (n : Nat) : bf_cnt p n ≤ n := by
  induction n with
  | zero => exact Nat.le_refl 0
  | succ n ih =>
    show bf_cnt p n + (if p n = true then 1 else 0) ≤ n + 1
    by_cases z : p n = true
    · rw [if_pos z]
      omega
    · rw [if_neg z]
      omega
theorem bf_cnt_ext {p q : Nat → Bool} {n : Nat} (h : ∀ j, j < n → p j = q j) : bf_cnt p n = bf_cnt q n := by
  induction n with
  | zero => rfl
  | succ n ih =>
    show bf_cnt p n + (if p n = true then 1 else 0) = bf_cnt q n + (if q n = true then 1 else 0)
    rw [ih (fun j hj => h j (by omega)), h n (by omega)]
theorem bf_cnt_f {p : Nat → Bool} {n : Nat} (h : ∀ j, j < n → p j = false) : bf_cnt p n = 0 := by
  induction n with
  | zero => rfl
  | succ n ih =>
    show bf_cnt p n + (if p n = true then 1 else 0) = 0
    rw [ih (fun j hj => h j (by omega)), h n (by omega)]
    rfl
theorem bf_cnt_t {p : Nat → Bool} {n : Nat} (h : ∀ j, j < n → p j = true) : bf_cnt p n = n := by
  induction n with
  | zero => rfl
  | succ n ih =>
    show bf_cnt p n + (if p n = true then 1 else 0) = n + 1
    rw [ih (fun j hj => h j (by omega)), if_pos (h n (by omega))]
theorem bf_cnt_s {p : Nat → Bool} {n : Nat} (h : p n = true) : bf_cnt p (n + 1) = bf_cnt p n + 1 := by
  show bf_cnt p n + (if p n = true then 1 else 0) = bf_cnt p n + 1
  rw [if_pos h]
theorem bf_cnt_n {p : Nat → Bool} {n : Nat} (h : ¬ p n = true) : bf_cnt p (n + 1) = bf_cnt p n := by
  show bf_cnt p n + (if p n = true then 1 else 0) = bf_cnt p n
  rw [if_neg h]
  rfl
theorem bf_cnt_add (p : Nat → Bool) (a b : Nat) : bf_cnt p (a + b) = bf_cnt p a + bf_cnt (fun j => p (a + j)) b := by
  induction b with
  | zero => rfl
  | succ b ih =>
    show bf_cnt p (a + b) + (if p (a + b) = true then 1 else 0) = bf_cnt p a + (bf_cnt (fun j => p (a + j)) b + (if p (a + b) = true then 1 else 0))
    rw [ih, Nat.add_assoc]
theorem bf_cnt_iv {c0 c1 : Nat} (h : c0 ≤ c1) (n : Nat) : bf_cnt (fun j => decide (c0 ≤ j ∧ j < c1)) n = min n c1 - min n c0 := by
  induction n with
  | zero =>
    show 0 = min 0 c1 - min 0 c0
    omega
  | succ n ih =>
    show bf_cnt (fun j => decide (c0 ≤ j ∧ j < c1)) n + (if decide (c0 ≤ n ∧ n < c1) = true then 1 else 0) = min (n + 1) c1 - min (n + 1) c0
    rw [ih]
    by_cases z : c0 ≤ n ∧ n < c1
    · rw [if_pos (decide_eq_true z)]
      omega
    · rw [if_neg (fun e => z (of_decide_eq_true e))]
      omega
theorem bf_cnt_del {p : Nat → Bool} {k n : Nat} (hk : k < n) (hp : p k = true) : bf_cnt (fun j => p j && decide (j ≠ k)) n + 1 = bf_cnt p n := by
  induction n with
  | zero => omega
  | succ n ih =>
    by_cases z : k = n
    · subst z
      rw [bf_cnt_s hp, bf_cnt_n (p := fun j => p j && decide (j ≠ k)) (by simp), bf_cnt_ext (q := p)]
      intro j hj
      have : j ≠ k := by omega
      simp [this]
    · have hn : n ≠ k := fun e => z e.symm
      have := ih (by omega)
      by_cases y : p n = true
      · rw [bf_cnt_s y, bf_cnt_s (p := fun j => p j && decide (j ≠ k)) (by simp [y, hn])]
        omega
      · rw [bf_cnt_n y, bf_cnt_n (p := fun j => p j && decide (j ≠ k)) (by simp [y])]
        omega
/-- place j of the raster lies in the box: rows r0 .. r1 - 1, columns c0 .. c1 - 1 -/
def bf_in (r0 r1 c0 c1 j : Nat) : Prop := (r0 ≤ j / 16 ∧ j / 16 < r1) ∧ (c0 ≤ j % 16 ∧ j % 16 < c1)
def bf_inB (r0 r1 c0 c1 j : Nat) : Bool := decide ((r0 ≤ j / 16 ∧ j / 16 < r1) ∧ (c0 ≤ j % 16 ∧ j % 16 < c1))
theorem bf_inB_iff {r0 r1 c0 c1 j : Nat} : bf_inB r0 r1 c0 c1 j = true ↔ bf_in r0 r1 c0 c1 j := by
  unfold bf_inB bf_in
  exact decide_eq_true_iff
theorem bf_cnt_box {r0 r1 c0 c1 : Nat} (hr : r0 ≤ r1) (hc : c0 ≤ c1) (hc1 : c1 ≤ 16) (n : Nat) :
    bf_cnt (bf_inB r0 r1 c0 c1) (16 * n) = (min n r1 - min n r0) * (c1 - c0) := by
  induction n with
  | zero =>
    show 0 = (min 0 r1 - min 0 r0) * (c1 - c0)
    rw [show min 0 r1 - min 0 r0 = 0 by omega, Nat.zero_mul]
  | succ n ih =>
    rw [show 16 * (n + 1) = 16 * n + 16 by omega, bf_cnt_add, ih]
    by_cases z : r0 ≤ n ∧ n < r1
    · rw [bf_cnt_ext (p := fun j => bf_inB r0 r1 c0 c1 (16 * n + j)) (q := fun j => decide (c0 ≤ j ∧ j < c1)), bf_cnt_iv hc,
        show min (n + 1) r1 - min (n + 1) r0 = (min n r1 - min n r0) + 1 by omega, Nat.add_mul, Nat.one_mul,
        show min 16 c1 - min 16 c0 = c1 - c0 by omega]
      intro j hj
      show decide ((r0 ≤ (16 * n + j) / 16 ∧ (16 * n + j) / 16 < r1) ∧ (c0 ≤ (16 * n + j) % 16 ∧ (16 * n + j) % 16 < c1)) = decide (c0 ≤ j ∧ j < c1)
      rw [show (16 * n + j) / 16 = n by omega, show (16 * n + j) % 16 = j by omega]
      exact decide_eq_decide.mpr ⟨fun e => e.2, fun e => ⟨z, e⟩⟩
    · rw [bf_cnt_f, show min (n + 1) r1 - min (n + 1) r0 = min n r1 - min n r0 by omega, Nat.add_zero]
      intro j hj
      show decide ((r0 ≤ (16 * n + j) / 16 ∧ (16 * n + j) / 16 < r1) ∧ (c0 ≤ (16 * n + j) % 16 ∧ (16 * n + j) % 16 < c1)) = false
      rw [show (16 * n + j) / 16 = n by omega]
      exact decide_eq_false (fun e => z e.1)
theorem bf_cnt_256 {r0 r1 c0 c1 : Nat} (hr : r0 ≤ r1) (hr1 : r1 ≤ 16) (hc : c0 ≤ c1) (hc1 : c1 ≤ 16) :
    bf_cnt (bf_inB r0 r1 c0 c1) 256 = (r1 - r0) * (c1 - c0) := by
  have := bf_cnt_box hr hc hc1 16
  rw [show min 16 r1 - min 16 r0 = r1 - r0 by omega] at this
  exact this
/-- the sum of the first n places -/
def bf_sum (f : Nat → Int32) : Nat → Int32
  | 0 => 0
  | n + 1 => bf_sum f n + f n
theorem bf_sum_cnt {f : Nat → Int32} {p : Nat → Bool} {V : Int32} {n : Nat} (h1 : ∀ j, j < n → p j = true → f j = V) (h0 : ∀ j, j < n → ¬ p j = true → f j = 0) :
    bf_sum f n = nI (bf_cnt p n) * V := by
  induction n with
  | zero =>
    show (0 : Int32) = nI 0 * V
    rw [nI_0, Int32.zero_mul]
  | succ n ih =>
    show bf_sum f n + f n = nI (bf_cnt p (n + 1)) * V
    rw [ih (fun j hj => h1 j (by omega)) (fun j hj => h0 j (by omega))]
    by_cases z : p n = true
    · rw [bf_cnt_s z, h1 n (by omega) z, ← nI_1, Int32.add_mul, Int32.one_mul]
    · rw [bf_cnt_n z, h0 n (by omega) z, Int32.add_zero]
/-- the raster holds V in the box, 0 elsewhere -/
def bf_pic (r0 r1 c0 c1 : Nat) (V : Int32) (f : Nat → Int32) : Prop :=
  (∀ j, j < 256 → bf_in r0 r1 c0 c1 j → f j = V) ∧ (∀ j, j < 256 → ¬ bf_in r0 r1 c0 c1 j → f j = 0)
/-- the picture itself -/
def bf_img (r0 r1 c0 c1 : Nat) (V : Int32) : Nat → Int32 := fun j => if (r0 ≤ j / 16 ∧ j / 16 < r1) ∧ (c0 ≤ j % 16 ∧ j % 16 < c1) then V else 0
theorem bf_img_t {r0 r1 c0 c1 : Nat} {V : Int32} {j : Nat} (h : bf_in r0 r1 c0 c1 j) : bf_img r0 r1 c0 c1 V j = V := if_pos h
theorem bf_img_f {r0 r1 c0 c1 : Nat} {V : Int32} {j : Nat} (h : ¬ bf_in r0 r1 c0 c1 j) : bf_img r0 r1 c0 c1 V j = 0 := if_neg h
theorem bf_pic_img {r0 r1 c0 c1 : Nat} {V : Int32} {f : Nat → Int32} (h : ∀ j, j < 256 → f j = bf_img r0 r1 c0 c1 V j) : bf_pic r0 r1 c0 c1 V f :=
  ⟨fun j hj hi => (h j hj).trans (bf_img_t hi), fun j hj hi => (h j hj).trans (bf_img_f hi)⟩
theorem bf_pic_eq {r0 r1 c0 c1 : Nat} {V : Int32} {f : Nat → Int32} (h : bf_pic r0 r1 c0 c1 V f) {j : Nat} (hj : j < 256) : f j = bf_img r0 r1 c0 c1 V j := by
  by_cases z : bf_in r0 r1 c0 c1 j
  · rw [h.1 j hj z, bf_img_t z]
  · rw [h.2 j hj z, bf_img_f z]
theorem bf_sum_pic {r0 r1 c0 c1 : Nat} {V : Int32} {f : Nat → Int32} (h : bf_pic r0 r1 c0 c1 V f) (hr : r0 ≤ r1) (hr1 : r1 ≤ 16) (hc : c0 ≤ c1) (hc1 : c1 ≤ 16) :
    bf_sum f 256 = nI ((r1 - r0) * (c1 - c0)) * V := by
  rw [← bf_cnt_256 hr hr1 hc hc1]
  exact bf_sum_cnt (fun j hj z => h.1 j hj (bf_inB_iff.mp z)) (fun j hj z => h.2 j hj (fun y => z (bf_inB_iff.mpr y)))
/-- the window's best: x is a place of the window about c, none in it is above -/
def bf_good (L : Nat → Int) (k c x : Nat) : Prop := x < 16 ∧ c ≤ x + k ∧ x ≤ c + k ∧ ∀ p, p < 16 → c ≤ p + k → p ≤ c + k → L p ≤ L x
theorem bf_good_ext {L L' : Nat → Int} {k c x : Nat} (e : ∀ p, p < 16 → L p = L' p) (h : bf_good L k c x) : bf_good L' k c x := by
  obtain ⟨h1, h2, h3, h4⟩ := h
  refine ⟨h1, h2, h3, fun p hp a b => ?_⟩
  rw [← e p hp, ← e x h1]
  exact h4 p hp a b
/-- the queue of candidates -/
def bf_Q (L : Nat → Int) (k i m hd tl : Nat) (Q : Nat → Nat) : Prop :=
  hd ≤ tl ∧ tl ≤ m ∧ (∀ j, hd ≤ j → j < tl → Q j < m ∧ i ≤ Q j + 1 + 2 * k) ∧
  (∀ j j', hd ≤ j → j < j' → j' < tl → Q j < Q j' ∧ L (Q j') < L (Q j)) ∧
  (∀ p, p < m → i ≤ p + 1 + 2 * k → ∃ j, hd ≤ j ∧ j < tl ∧ p ≤ Q j ∧ L p ≤ L (Q j))
/-- the same while place i drives out what it outdoes -/
def bf_P (L : Nat → Int) (k i hd tl : Nat) (Q : Nat → Nat) : Prop :=
  hd ≤ tl ∧ tl ≤ i ∧ (∀ j, hd ≤ j → j < tl → Q j < i ∧ i ≤ Q j + 1 + 2 * k) ∧
  (∀ j j', hd ≤ j → j < j' → j' < tl → Q j < Q j' ∧ L (Q j') < L (Q j)) ∧
  (∀ p, p < i → i ≤ p + 1 + 2 * k → (∃ j, hd ≤ j ∧ j < tl ∧ p ≤ Q j ∧ L p ≤ L (Q j)) ∨ L p ≤ L i)
theorem bf_Q_0 {L : Nat → Int} {k : Nat} {Q : Nat → Nat} : bf_Q L k 0 0 0 0 Q :=
  ⟨Nat.le_refl 0, Nat.le_refl 0, fun j _ h => absurd h (by omega), fun j j' _ _ h => absurd h (by omega), fun p h => absurd h (by omega)⟩
theorem bf_Q_ne {L : Nat → Int} {k i m hd tl : Nat} {Q : Nat → Nat} (h : bf_Q L k i m hd tl Q) (hm : 0 < m) (hi : i ≤ m + 2 * k) : hd < tl := by
  obtain ⟨j, h1, h2, _⟩ := h.2.2.2.2 (m - 1) (by omega) (by omega)
  omega
theorem bf_Q_P {L : Nat → Int} {k i hd tl : Nat} {Q : Nat → Nat} (h : bf_Q L k i i hd tl Q) : bf_P L k i hd tl Q :=
  ⟨h.1, h.2.1, h.2.2.1, h.2.2.2.1, fun p hp hl => Or.inl (h.2.2.2.2 p hp hl)⟩
theorem bf_P_pop {L : Nat → Int} {k i hd tl : Nat} {Q : Nat → Nat} (h : bf_P L k i hd (tl + 1) Q) (hh : hd < tl + 1) (hx : ¬ L i < L (Q tl)) : bf_P L k i hd tl Q := by
  obtain ⟨h1, h2, h3, h4, h5⟩ := h
  refine ⟨by omega, by omega, fun j a b => h3 j a (by omega), fun j j' a b c => h4 j j' a b (by omega), fun p hp hl => ?_⟩
  rcases h5 p hp hl with ⟨j, a, b, c, d⟩ | d
  · by_cases z : j = tl
    · subst z
      exact Or.inr (by omega)
    · exact Or.inl ⟨j, a, by omega, c, d⟩
  · exact Or.inr d
theorem bf_P_push {L : Nat → Int} {k i hd tl : Nat} {Q Q' : Nat → Nat} (h : bf_P L k i hd tl Q) (hx : tl ≤ hd ∨ L i < L (Q (tl - 1)))
    (e : Q' tl = i) (n : ∀ j, j ≠ tl → Q' j = Q j) : bf_Q L k i (i + 1) hd (tl + 1) Q' := by
  obtain ⟨h1, h2, h3, h4, h5⟩ := h
  refine ⟨by omega, by omega, fun j a b => ?_, fun j j' a b c => ?_, fun p hp hl => ?_⟩
  · by_cases z : j = tl
    · rw [z, e]
      omega
    · rw [n j z]
      have := h3 j a (by omega)
      omega
  · have hj : j ≠ tl := by omega
    rw [n j hj]
    by_cases z : j' = tl
    · rw [z, e]
      refine ⟨(h3 j a (by omega)).1, ?_⟩
      rcases hx with hx | hx
      · omega
      · by_cases y : j = tl - 1
        · rw [y]
          exact hx
        · have := (h4 j (tl - 1) a (by omega) (by omega)).2
          omega
    · rw [n j' z]
      exact h4 j j' a b (by omega)
  · by_cases z : p = i
    · refine ⟨tl, h1, by omega, ?_⟩
      rw [e, z]
      exact ⟨Nat.le_refl i, Int.le_refl _⟩
    · rcases h5 p (by omega) hl with ⟨j, a, b, c, d⟩ | d
      · refine ⟨j, a, by omega, ?_⟩
        rw [n j (by omega)]
        exact ⟨c, d⟩
      · refine ⟨tl, h1, by omega, ?_⟩
        rw [e]
        exact ⟨by omega, d⟩
theorem bf_Q_low {L : Nat → Int} {k i m hd tl : Nat} {Q : Nat → Nat} (h : bf_Q L k i m hd tl Q) (hi : i < k) : bf_Q L k (i + 1) m hd tl Q := by
  obtain ⟨h1, h2, h3, h4, h5⟩ := h
  exact ⟨h1, h2, fun j a b => ⟨(h3 j a b).1, by omega⟩, h4, fun p hp hl => h5 p hp (by omega)⟩
theorem bf_Q_keep {L : Nat → Int} {k i m hd tl : Nat} {Q : Nat → Nat} (h : bf_Q L k i m hd tl Q) (hi : i ≤ Q hd + 2 * k) : bf_Q L k (i + 1) m hd tl Q := by
  obtain ⟨h1, h2, h3, h4, h5⟩ := h
  refine ⟨h1, h2, fun j a b => ⟨(h3 j a b).1, ?_⟩, h4, fun p hp hl => h5 p hp (by omega)⟩
  by_cases z : j = hd
  · rw [z]
    omega
  · have := (h4 hd j (Nat.le_refl hd) (by omega) b).1
    omega
theorem bf_Q_drop {L : Nat → Int} {k i m hd tl : Nat} {Q : Nat → Nat} (h : bf_Q L k i m hd tl Q) (hn : hd < tl) (hi : Q hd + 2 * k < i) : bf_Q L k (i + 1) m (hd + 1) tl Q := by
  obtain ⟨h1, h2, h3, h4, h5⟩ := h
  refine ⟨hn, h2, fun j a b => ⟨(h3 j (by omega) b).1, ?_⟩, fun j j' a b c => h4 j j' (by omega) b c, fun p hp hl => ?_⟩
  · have := (h4 hd j (Nat.le_refl hd) (by omega) b).1
    have := (h3 hd (Nat.le_refl hd) hn).2
    omega
  · obtain ⟨j, a, b, c, d⟩ := h5 p hp (by omega)
    by_cases z : j = hd
    · rw [z] at c
      omega
    · exact ⟨j, by omega, b, c, d⟩
theorem bf_Q_good {L : Nat → Int} {k c i m hd tl : Nat} {Q : Nat → Nat} (hc : c + k = i) (h : bf_Q L k (i + 1) m hd tl Q) (hn : hd < tl) (hm : m = min (i + 1) 16) : bf_good L k c (Q hd) := by
  obtain ⟨h1, h2, h3, h4, h5⟩ := h
  have a := h3 hd (Nat.le_refl hd) hn
  refine ⟨by omega, by omega, by omega, fun p hp q1 q2 => ?_⟩
  obtain ⟨j, b1, b2, b3, b4⟩ := h5 p (by omega) (by omega)
  by_cases z : j = hd
  · rw [← z]
    exact b4
  · have := (h4 hd j (Nat.le_refl hd) (by omega) b2).2
    omega
/-- one line with at most one place t that isn't 0 -/
theorem bf_1d {A : Prop} {F : Nat → Int32} {V : Int32} {t w cc x : Nat} (hV : 0 < V.toInt) (ht : t < 16) (h1 : A → F t = V) (h0 : ∀ p, p < 16 → ¬ (A ∧ p = t) → F p = 0)
    (hg : bf_good (fun p => (F p).toInt) w cc x) : (A ∧ cc ≤ t + w ∧ t ≤ cc + w → F x = V) ∧ (¬ (A ∧ cc ≤ t + w ∧ t ≤ cc + w) → F x = 0) := by
  obtain ⟨g1, g2, g3, g4⟩ := hg
  refine ⟨fun h => ?_, fun h => ?_⟩
  · by_cases z : x = t
    · rw [z]
      exact h1 h.1
    · have q : (F t).toInt ≤ (F x).toInt := g4 t ht h.2.1 h.2.2
      rw [h1 h.1, h0 x g1 (fun y => z y.2), show (0 : Int32).toInt = 0 from by decide] at q
      omega
  · refine h0 x g1 (fun y => h ⟨y.1, ?_⟩)
    rw [← y.2]
    exact ⟨g2, g3⟩
/-- the row pass over one pixel -/
theorem bf_rowpix {r c w : Nat} {V : Int32} (hV : 0 < V.toInt) (hr : r < 16) (hc : c < 16) (i cc x : Nat) (hi : i < 16) (hcc : cc < 16)
    (hg : bf_good (fun p => (bf_img r (r + 1) c (c + 1) V (i * 16 + p * 1)).toInt) w cc x) :
    bf_img r (r + 1) c (c + 1) V (i * 16 + x * 1) = bf_img r (r + 1) (c - w) (min (c + w + 1) 16) V (i * 16 + cc * 1) := by
  have m := bf_1d (A := i = r) (F := fun p => bf_img r (r + 1) c (c + 1) V (i * 16 + p * 1)) (t := c) hV hc
    (fun a => bf_img_t (by unfold bf_in; omega)) (fun p hp a => bf_img_f (by unfold bf_in; omega)) hg
  by_cases z : i = r ∧ cc ≤ c + w ∧ c ≤ cc + w
  · exact (m.1 z).trans (bf_img_t (by unfold bf_in; omega)).symm
  · exact (m.2 z).trans (bf_img_f (by unfold bf_in; omega)).symm
/-- the column pass over one row -/
theorem bf_colpix {r h c0 c1 : Nat} {V : Int32} (hV : 0 < V.toInt) (hr : r < 16) (hc : c1 ≤ 16) (i cc x : Nat) (hi : i < 16) (hcc : cc < 16)
    (hg : bf_good (fun p => (bf_img r (r + 1) c0 c1 V (i + p * 16)).toInt) h cc x) :
    bf_img r (r + 1) c0 c1 V (i + x * 16) = bf_img (r - h) (min (r + h + 1) 16) c0 c1 V (i + cc * 16) := by
  have m := bf_1d (A := c0 ≤ i ∧ i < c1) (F := fun p => bf_img r (r + 1) c0 c1 V (i + p * 16)) (t := r) hV hr
    (fun a => bf_img_t (by unfold bf_in; omega)) (fun p hp a => bf_img_f (by unfold bf_in; omega)) hg
  by_cases z : (c0 ≤ i ∧ i < c1) ∧ cc ≤ r + h ∧ r ≤ cc + h
  · exact (m.1 z).trans (bf_img_t (by unfold bf_in; omega)).symm
  · exact (m.2 z).trans (bf_img_f (by unfold bf_in; omega)).symm
/-- how many places a dilated pixel changes -/
theorem bf_cnt_chg {r c r0 r1 c0 c1 : Nat} {V : Int32} {f b : Nat → Int32} (hV : 0 < V.toInt) (hf : bf_pic r0 r1 c0 c1 V f) (hb : bf_pic r (r + 1) c (c + 1) V b)
    (h1 : r0 ≤ r) (h2 : r < r1) (h3 : r1 ≤ 16) (h4 : c0 ≤ c) (h5 : c < c1) (h6 : c1 ≤ 16) :
    bf_cnt (fun j => decide (¬ f j = b j)) 256 + 1 = (r1 - r0) * (c1 - c0) := by
  have hV0 : ¬ V = 0 := fun e => by
    rw [e, show (0 : Int32).toInt = 0 from by decide] at hV
    omega
  rw [← bf_cnt_256 (by omega) h3 (by omega) h6, ← bf_cnt_del (p := bf_inB r0 r1 c0 c1) (k := r * 16 + c) (n := 256) (by omega) (bf_inB_iff.mpr (by unfold bf_in; omega))]
  refine congrArg (· + 1) (bf_cnt_ext (fun j hj => ?_))
  by_cases z : j = r * 16 + c
  · have q1 : f j = V := hf.1 j hj (by unfold bf_in; omega)
    have q2 : b j = V := hb.1 j hj (by unfold bf_in; omega)
    have e1 : decide (¬ f j = b j) = false := decide_eq_false (fun y => y (q1.trans q2.symm))
    have e2 : decide (j ≠ r * 16 + c) = false := decide_eq_false (fun y => y z)
    rw [e1, e2, Bool.and_false]
  · have q2 : b j = 0 := hb.2 j hj (by unfold bf_in; omega)
    have e2 : decide (j ≠ r * 16 + c) = true := decide_eq_true z
    rw [e2, Bool.and_true, q2]
    by_cases y : bf_in r0 r1 c0 c1 j
    · rw [hf.1 j hj y, bf_inB_iff.mpr y]
      exact decide_eq_true hV0
    · rw [hf.2 j hj y]
      have e3 : bf_inB r0 r1 c0 c1 j = false := by
        cases q : bf_inB r0 r1 c0 c1 j with
        | false => rfl
        | true => exact absurd (bf_inB_iff.mp q) y
      rw [e3]
      exact decide_eq_false (fun q => q rfl)
end
section
/-! filterLine: the queue of candidates, step by step -/
def bf_L (a : Nat → Int32) : Nat → Int := fun x => (a x).toInt
theorem bf_cmp {a k x : Nat} (ha : a < 2 ^ 30) (hk : k < 2 ^ 30) (hx : x < 2 ^ 30) : nI a - nI k ≤ nI x ↔ a ≤ x + k := by
  rw [Int32.le_iff_toInt_le, pk_sub_toInt ha hk, nI_toInt (by omega)]
  omega
section
variable {post : St2 → Prop} {J : Int32 → Int32 → Int32 → (Nat → Int32) → (Nat → Int32) → (Nat → Int32) → (Nat → Int32) → (Nat → Int32) → (Nat → Int32) → (Nat → Int32) → Prop} {a1 a2 a3 a4 a5 a6 a7 : Nat → Int32}
theorem bf_out {ps : Int32 → Prop} {i x : Nat} (hi : i < 16) (hx : x < 16) (H0 : bf_L a4 i < bf_L a4 x → ps 0) (H1 : ¬ bf_L a4 i < bf_L a4 x → ps 1) :
    wpX_outdoes ps (a1, a2, a3, a4, a5, a6, a7) (nI i) (nI x) 1 := by
  unfold wpX_outdoes
  rw [nI_clamp (n := i) (by omega), nI_clamp (n := x) (by omega)]
  exact br_f (by decide) ⟨vp_in_nI hi (by omega), vp_in_nI hx (by omega), ek_if Int32.lt_iff_toInt_lt H0 H1⟩
theorem bf_132 {s0 st k tl i hd c x : Nat} (hhd : hd < 16) (hx : x < 16) (hq : a5 hd = nI x) (hb : s0 + c * st < 256)
    (hJ : J (nI hd) (nI tl) (nI (i + 1)) (upd a1 (s0 + c * st) (a4 x)) a2 a3 a4 a5 a6 a7) :
    wX_filterLine_132 post J (nI s0) (nI st) (nI k) 1 (nI hd) (nI tl) (nI i) (nI c) a1 a2 a3 a4 a5 a6 a7 := by
  have e1 : (nI hd).toNatClampNeg = hd := nI_clamp (by omega)
  have e2 : nI s0 + nI c * nI st = nI (s0 + c * st) := by rw [pk_mul, nI_add]
  unfold wX_filterLine_132
  rw [e1, hq, e2, nI_clamp (n := x) (by omega), nI_clamp (n := s0 + c * st) (by omega)]
  exact ⟨vp_in_nI hhd (by omega), vp_in_nI hx (by omega), vp_in_nI hb (by omega), nm_e (nm_r (nI_1 i) hJ)⟩
theorem bf_104 {s0 st k i m hd tl : Nat} {Q : Nat → Nat} (hs : s0 + 15 * st < 256) (hk : k ≤ 7) (hi : i < 16 + k) (hm : m = min (i + 1) 16)
    (h : bf_Q (bf_L a4) k i m hd tl Q) (hq : ∀ j, hd ≤ j → j < tl → a5 j = nI (Q j))
    (hJ0 : i < k → bf_Q (bf_L a4) k (i + 1) m hd tl Q → J (nI hd) (nI tl) (nI (i + 1)) a1 a2 a3 a4 a5 a6 a7)
    (hJ1 : ∀ c hd' x, c + k = i → hd ≤ hd' → bf_Q (bf_L a4) k (i + 1) m hd' tl Q → bf_good (bf_L a4) k c x → J (nI hd') (nI tl) (nI (i + 1)) (upd a1 (s0 + c * st) (a4 x)) a2 a3 a4 a5 a6 a7) :
    wX_filterLine_104 post J (nI s0) (nI st) (nI k) 1 (nI hd) (nI tl) (nI i) a1 a2 a3 a4 a5 a6 a7 := by
  have hne : hd < tl := bf_Q_ne h (by omega) (by omega)
  have htl : tl ≤ 16 := by
    have := h.2.1
    omega
  unfold wX_filterLine_104
  by_cases z : i < k
  · exact nm_e (br_t (pk_sneg (by omega) z) (nm_r (nI_1 i) (hJ0 z (bf_Q_low h z))))
  · have hb : s0 + (i - k) * st < 256 := Nat.lt_of_le_of_lt (Nat.add_le_add_left (Nat.mul_le_mul_right st (show i - k ≤ 15 by omega)) s0) hs
    have hx : ∀ j, hd ≤ j → j < tl → Q j < 16 := fun j h1 h2 => by
      have := (h.2.2.1 j h1 h2).1
      omega
    refine nm_r (pk_sub (show k ≤ i by omega)) (br_f (nI_pos (by omega)) ⟨vp_in_nI (show hd < 16 by omega) (by omega), ?_⟩)
    rw [nI_clamp (n := hd) (by omega), hq hd (Nat.le_refl hd) hne]
    have hx0 := hx hd (Nat.le_refl hd) hne
    refine ek_if (bf_cmp (by omega) (by omega) (by omega)) (fun g => ?_) (fun g => ?_)
    · have h' := bf_Q_keep h (by omega)
      exact bf_132 (by omega) hx0 (hq hd (Nat.le_refl hd) hne) hb (hJ1 (i - k) hd (Q hd) (by omega) (Nat.le_refl hd) h' (bf_Q_good (by omega) h' hne hm))
    · have h' := bf_Q_drop h hne (by omega)
      have hne' : hd + 1 < tl := bf_Q_ne h' (by omega) (by omega)
      exact nm_r (nI_1 hd) (bf_132 (by omega) (hx (hd + 1) (by omega) hne') (hq (hd + 1) (by omega) hne') hb (hJ1 (i - k) (hd + 1) (Q (hd + 1)) (by omega) (by omega) h' (bf_Q_good (by omega) h' hne' hm)))
theorem bf_92 {x1 x2 x3 x5 : Int32} {tl i : Nat} (htl : tl < 16) (H : wX_filterLine_104 post J x1 x2 x3 1 x5 (nI (tl + 1)) (nI i) a1 a2 a3 a4 (upd a5 tl (nI i)) a6 a7) :
    wX_filterLine_92 post J x1 x2 x3 1 x5 (nI tl) (nI i) a1 a2 a3 a4 a5 a6 a7 := by
  unfold wX_filterLine_92
  rw [nI_clamp (n := tl) (by omega)]
  exact ⟨vp_in_nI htl (by omega), nm_e (nm_r (nI_1 tl) H)⟩
theorem bf_59 {x1 x2 x3 : Int32} {k i hd T : Nat} {Q : Nat → Nat} (hi : i < 16) (hh : hd < 100) (hq : ∀ j, hd ≤ j → j < T → a5 j = nI (Q j))
    (H : ∀ t, t ≤ T → bf_P (bf_L a4) k i hd t Q → (t ≤ hd ∨ bf_L a4 i < bf_L a4 (Q (t - 1))) → wX_filterLine_92 post J x1 x2 x3 1 (nI hd) (nI t) (nI i) a1 a2 a3 a4 a5 a6 a7) :
    ∀ t, t ≤ T → bf_P (bf_L a4) k i hd t Q → ∃ n, wX_filterLine_59 post J x1 x2 x3 1 (nI hd) (nI i) a1 a2 a3 a4 a5 a6 a7 n (nI t) := by
  intro t
  induction t with
  | zero =>
    intro ht h
    exact ⟨1, br_t (nI_le (Nat.zero_le hd) (by omega)) (H 0 ht h (Or.inl (Nat.zero_le hd)))⟩
  | succ t ih =>
    intro ht h
    have hb := h.2.1
    by_cases z : t + 1 ≤ hd
    · exact ⟨1, br_t (nI_le z (by omega)) (H (t + 1) ht h (Or.inl z))⟩
    · have hQ := (h.2.2.1 t (by omega) (by omega)).1
      have e : nI (t + 1) - 1 = nI t := nI_pred t
      have c : (nI t).toNatClampNeg = t := nI_clamp (by omega)
      by_cases g : bf_L a4 i < bf_L a4 (Q t)
      · refine ⟨1, br_f (nI_ge (by omega) (by omega)) ?_⟩
        rw [e, c, hq t (by omega) (by omega)]
        exact ⟨vp_in_nI (by omega) (by omega), bf_out hi (by omega) (fun _ => br_t rfl (H (t + 1) ht h (Or.inr g))) (fun g' => absurd g g')⟩
      · obtain ⟨n, hn⟩ := ih (by omega) (bf_P_pop h (by omega) g)
        refine ⟨n + 1, br_f (nI_ge (by omega) (by omega)) ?_⟩
        rw [e, c, hq t (by omega) (by omega)]
        exact ⟨vp_in_nI (by omega) (by omega), bf_out hi (by omega) (fun g' => absurd g' g) (fun _ => br_f (by decide) (nm_r (pk_m1 t) hn))⟩
end
/-- the loop's invariant -/
def bf_I (a1 a4 : Nat → Int32) (s0 st k i hd tl : Nat) (r q : Nat → Int32) : Prop :=
  ∃ Q, bf_Q (bf_L a4) k i (min i 16) hd tl Q ∧ (∀ j, hd ≤ j → j < tl → q j = nI (Q j)) ∧
    (∀ c, c + k < i → ∃ x, bf_good (bf_L a4) k c x ∧ r (s0 + c * st) = a4 x) ∧ (∀ j, (∀ c, c + k < i → j ≠ s0 + c * st) → r j = a1 j)
theorem bf_I_low {a1 a4 : Nat → Int32} {s0 st k i hd tl : Nat} {r q : Nat → Int32} {Q : Nat → Nat} (hi : i < k) (hQ : bf_Q (bf_L a4) k (i + 1) (min (i + 1) 16) hd tl Q)
    (hq : ∀ j, hd ≤ j → j < tl → q j = nI (Q j)) (h4 : ∀ j, (∀ c, c + k < i → j ≠ s0 + c * st) → r j = a1 j) : bf_I a1 a4 s0 st k (i + 1) hd tl r q :=
  ⟨Q, hQ, hq, fun c hc => absurd hc (by omega), fun j hj => h4 j (fun c hc => absurd hc (by omega))⟩
theorem bf_I_put {a1 a4 : Nat → Int32} {s0 st k i hd hd0 tl c x : Nat} {r q : Nat → Int32} {Q : Nat → Nat} (hst : 0 < st) (hc : c + k = i) (hh : hd0 ≤ hd)
    (hQ : bf_Q (bf_L a4) k (i + 1) (min (i + 1) 16) hd tl Q) (hq : ∀ j, hd0 ≤ j → j < tl → q j = nI (Q j)) (hg : bf_good (bf_L a4) k c x)
    (h3 : ∀ c, c + k < i → ∃ x, bf_good (bf_L a4) k c x ∧ r (s0 + c * st) = a4 x) (h4 : ∀ j, (∀ c, c + k < i → j ≠ s0 + c * st) → r j = a1 j) :
    bf_I a1 a4 s0 st k (i + 1) hd tl (upd r (s0 + c * st) (a4 x)) q := by
  refine ⟨Q, hQ, fun j a b => hq j (by omega) b, fun c' hc' => ?_, fun j hj => ?_⟩
  · by_cases z : c' = c
    · subst z
      exact ⟨x, hg, pk_us⟩
    · obtain ⟨y, hy, ey⟩ := h3 c' (by omega)
      refine ⟨y, hy, ?_⟩
      rw [pk_un (fun e => z (Nat.eq_of_mul_eq_mul_right hst (Nat.add_left_cancel e)))]
      exact ey
  · rw [pk_un (hj c (by omega))]
    exact h4 j (fun c' hc' => hj c' (by omega))
section
variable {post : St2 → Prop} {a1 a2 a3 a4 a5 a6 a7 : Nat → Int32}
theorem bf_43s {a0 : Nat → Int32} {s0 st k n i hd tl : Nat} (hst : 0 < st) (hs : s0 + 15 * st < 256) (hk : k ≤ 7) (hi : i < 16 + k) (h : bf_I a0 a4 s0 st k i hd tl a1 a5)
    (hw : ∀ hd' tl' r q, bf_I a0 a4 s0 st k (i + 1) hd' tl' r q → wX_filterLine_43 post (nI s0) (nI st) (nI k) 1 n (nI hd') (nI tl') (nI (i + 1)) r a2 a3 a4 q a6 a7) :
    wX_filterLine_43 post (nI s0) (nI st) (nI k) 1 (n + 1) (nI hd) (nI tl) (nI i) a1 a2 a3 a4 a5 a6 a7 := by
  obtain ⟨Q, hQ, hq, h3, h4⟩ := h
  refine pk_le (16 + k) i (fun z => absurd z (by omega)) (fun _ => pk_le 16 i (fun z => ?_) (fun z => ?_)) (hx := nI_add 16 k)
  · rw [show min i 16 = min (i + 1) 16 by omega] at hQ
    exact bf_104 hs hk hi rfl hQ hq (fun z' g => hw _ _ _ _ (bf_I_low z' g hq h4)) (fun c hd' x hc hh g hg => hw _ _ _ _ (bf_I_put hst hc hh g hq hg h3 h4))
  · rw [show min i 16 = i by omega] at hQ
    have hT := hQ.2.1
    have hT0 := hQ.1
    refine bf_59 (T := tl) (Q := Q) (k := k) z (by omega) hq (fun t ht hP hx => bf_92 (by have := hP.2.1; omega) ?_) tl (Nat.le_refl tl) (bf_Q_P hQ)
    have hQ' : bf_Q (bf_L a4) k i (i + 1) hd (t + 1) (fun j => if j = t then i else Q j) := bf_P_push hP hx (if_pos rfl) (fun j hj => if_neg hj)
    rw [show i + 1 = min (i + 1) 16 by omega] at hQ'
    have hq' : ∀ j, hd ≤ j → j < t + 1 → upd a5 t (nI i) j = nI ((fun j => if j = t then i else Q j) j) := by
      intro j a b
      show upd a5 t (nI i) j = nI (if j = t then i else Q j)
      by_cases y : j = t
      · rw [y, pk_us, if_pos rfl]
      · rw [pk_un y, if_neg y]
        exact hq j a (by omega)
    exact bf_104 hs hk hi (by omega) hQ' hq' (fun z' g => hw _ _ _ _ (bf_I_low z' g hq' h4)) (fun c hd' x hc hh g hg => hw _ _ _ _ (bf_I_put hst hc hh g hq' hg h3 h4))
theorem bf_43 {s0 st k : Nat} (hst : 0 < st) (hs : s0 + 15 * st < 256) (hk : k ≤ 7)
    (H : ∀ r q, (∀ c, c < 16 → ∃ x, bf_good (bf_L a4) k c x ∧ r (s0 + c * st) = a4 x) → (∀ j, (∀ c, c < 16 → j ≠ s0 + c * st) → r j = a1 j) → post (r, a2, a3, a4, q, a6, a7)) :
    ∃ n, wX_filterLine_43 post (nI s0) (nI st) (nI k) 1 n 0 0 0 a1 a2 a3 a4 a5 a6 a7 :=
  pk_loop (σ := Nat × Nat × (Nat → Int32) × (Nat → Int32)) (fun n i s => wX_filterLine_43 post (nI s0) (nI st) (nI k) 1 n (nI s.1) (nI s.2.1) (nI i) s.2.2.1 a2 a3 a4 s.2.2.2 a6 a7)
    (fun i s => bf_I a1 a4 s0 st k i s.1 s.2.1 s.2.2.1 s.2.2.2) (16 + k) 0 (0, 0, a1, a5) (Nat.zero_le _)
    ⟨fun _ => 0, bf_Q_0, fun j _ h => absurd h (Nat.not_lt_zero j), fun c h => absurd h (Nat.not_lt_zero _), fun j _ => rfl⟩
    (fun n s h => by
      obtain ⟨Q, _, _, h3, h4⟩ := h
      exact pk_le (16 + k) (16 + k) (fun _ => H s.2.2.1 s.2.2.2 (fun c hc => h3 c (by omega)) (fun j hj => h4 j (fun c hc => hj c (by omega)))) (fun z => absurd z (by omega)) (hx := nI_add 16 k))
    (fun n i s hi h hw => bf_43s hst hs hk hi h (fun hd' tl' r q g => hw (hd', tl', r, q) g))
theorem bf_fl {s0 st k : Nat} (hst : 0 < st) (hs : s0 + 15 * st < 256) (hk : k ≤ 7)
    (H : ∀ r l q, (∀ c, c < 16 → ∃ x, bf_good (fun p => (a1 (s0 + p * st)).toInt) k c x ∧ r (s0 + c * st) = a1 (s0 + x * st)) → (∀ j, (∀ c, c < 16 → j ≠ s0 + c * st) → r j = a1 j) → post (r, a2, a3, l, q, a6, a7)) :
    wpX_filterLine post (a1, a2, a3, a4, a5, a6, a7) (nI s0) (nI st) (nI k) 1 :=
  pk_loop (fun n i s => wX_filterLine_3 post (nI s0) (nI st) (nI k) 1 n (nI i) a1 a2 a3 s a5 a6 a7) (fun i s => ∀ c, c < i → s c = a1 (s0 + c * st)) 16 0 a4 (by omega) (fun c hc => absurd hc (by omega))
    (fun n s h => pk_le 16 16 (fun _ => bf_43 hst hs hk (fun r q g3 g4 => H r s q (fun c hc => by
        obtain ⟨x, hx, e⟩ := g3 c hc
        refine ⟨x, bf_good_ext (fun p hp => ?_) hx, e.trans (h x hx.1)⟩
        show (s p).toInt = (a1 (s0 + p * st)).toInt
        rw [h p hp]) g4)) (fun z => absurd z (by omega)))
    (fun n i s hi h hw => by
      have e2 : nI s0 + nI i * nI st = nI (s0 + i * st) := by rw [pk_mul, nI_add]
      have hb : s0 + i * st < 256 := Nat.lt_of_le_of_lt (Nat.add_le_add_left (Nat.mul_le_mul_right st (show i ≤ 15 by omega)) s0) hs
      refine pk_le 16 i (fun z => absurd z (by omega)) (fun _ => ⟨pk_in (s0 + i * st) 256 hb e2, pk_in i 16 hi, nm_e (nm_r (nI_1 i) (hw _ ?_))⟩)
      rw [e2, nI_clamp (n := i) (by omega), nI_clamp (n := s0 + i * st) (by omega)]
      intro c hc
      by_cases z : c = i
      · rw [z, pk_us]
      · rw [pk_un z]
        exact h c (by omega))
end
end
section
/-! filter, remember, changed, dilate -/
section
variable {post : St2 → Prop} {a1 a2 a3 a4 a5 a6 a7 : Nat → Int32}
/-- the column pass: from f to g -/
theorem bf_31 {f g : Nat → Int32} {k : Nat} (hk : k ≤ 7)
    (hfg : ∀ i c x, i < 16 → c < 16 → bf_good (fun p => (f (i + p * 16)).toInt) k c x → f (i + x * 16) = g (i + c * 16))
    (hf : ∀ j, j < 256 → a1 j = f j) (H : ∀ r l q, (∀ j, j < 256 → r j = g j) → post (r, a2, a3, l, q, a6, a7)) :
    ∃ n, wX_filter_31 post (nI k) 1 n 0 a1 a2 a3 a4 a5 a6 a7 :=
  pk_loop (σ := (Nat → Int32) × (Nat → Int32) × (Nat → Int32)) (fun n i s => wX_filter_31 post (nI k) 1 n (nI i) s.1 a2 a3 s.2.1 s.2.2 a6 a7)
    (fun i s => ∀ j, j < 256 → (j % 16 < i → s.1 j = g j) ∧ (i ≤ j % 16 → s.1 j = f j)) 16 0 (a1, a4, a5) (by omega)
    (fun j hj => ⟨fun z => absurd z (by omega), fun _ => hf j hj⟩)
    (fun n s h => pk_le 16 16 (fun _ => H s.1 s.2.1 s.2.2 (fun j hj => (h j hj).1 (by omega))) (fun z => absurd z (by omega)))
    (fun n i s hi h hw => by
      refine pk_le 16 i (fun z => absurd z (by omega)) (fun _ => bf_fl (s0 := i) (st := 16) (k := k) (by omega) (by omega) hk (fun r l q h3 h4 => nm_r (nI_1 i) (hw (r, l, q) ?_)))
      intro j hj
      show (j % 16 < i + 1 → r j = g j) ∧ (i + 1 ≤ j % 16 → r j = f j)
      by_cases z : j % 16 = i
      · refine ⟨fun _ => ?_, fun y => absurd y (by omega)⟩
        obtain ⟨x, hx, e⟩ := h3 (j / 16) (by omega)
        have e0 : ∀ p, p < 16 → s.1 (i + p * 16) = f (i + p * 16) := fun p hp => (h (i + p * 16) (by omega)).2 (by omega)
        have hx' := bf_good_ext (L' := fun p => (f (i + p * 16)).toInt) (fun p hp => congrArg Int32.toInt (e0 p hp)) hx
        have q1 := hfg i (j / 16) x hi (by omega) hx'
        rw [e0 x hx.1, q1, show i + j / 16 * 16 = j by omega] at e
        exact e
      · have e := h4 j (fun c hc y => z (by omega))
        rw [e]
        exact ⟨fun y => (h j hj).1 (by omega), fun y => (h j hj).2 (by omega)⟩)
/-- both passes: from f by g to h -/
theorem bf_filter {f g h : Nat → Int32} {w v : Nat} (hw7 : w ≤ 7) (hv7 : v ≤ 7)
    (hfg : ∀ i c x, i < 16 → c < 16 → bf_good (fun p => (f (i * 16 + p * 1)).toInt) w c x → f (i * 16 + x * 1) = g (i * 16 + c * 1))
    (hgh : ∀ i c x, i < 16 → c < 16 → bf_good (fun p => (g (i + p * 16)).toInt) v c x → g (i + x * 16) = h (i + c * 16))
    (hf : ∀ j, j < 256 → a1 j = f j) (H : ∀ r l q, (∀ j, j < 256 → r j = h j) → post (r, a2, a3, l, q, a6, a7)) :
    wpX_filter post (a1, a2, a3, a4, a5, a6, a7) (nI w) (nI v) 1 :=
  pk_loop (σ := (Nat → Int32) × (Nat → Int32) × (Nat → Int32)) (fun n i s => wX_filter_3 post (nI w) (nI v) 1 n (nI i) s.1 a2 a3 s.2.1 s.2.2 a6 a7)
    (fun i s => ∀ j, j < 256 → (j / 16 < i → s.1 j = g j) ∧ (i ≤ j / 16 → s.1 j = f j)) 16 0 (a1, a4, a5) (by omega)
    (fun j hj => ⟨fun z => absurd z (by omega), fun _ => hf j hj⟩)
    (fun n s h => pk_le 16 16 (fun _ => bf_31 hv7 hgh (fun j hj => (h j hj).1 (by omega)) H) (fun z => absurd z (by omega)))
    (fun n i s hi h hw => by
      refine pk_le 16 i (fun z => absurd z (by omega)) (fun _ => ?_)
      have e16 : nI i * 16 = nI (i * 16) := pk_mul i 16
      rw [e16]
      refine bf_fl (s0 := i * 16) (st := 1) (k := w) (by omega) (by omega) hw7 (fun r l q h3 h4 => nm_r (nI_1 i) (hw (r, l, q) ?_))
      intro j hj
      show (j / 16 < i + 1 → r j = g j) ∧ (i + 1 ≤ j / 16 → r j = f j)
      by_cases z : j / 16 = i
      · refine ⟨fun _ => ?_, fun y => absurd y (by omega)⟩
        obtain ⟨x, hx, e⟩ := h3 (j % 16) (by omega)
        have e0 : ∀ p, p < 16 → s.1 (i * 16 + p * 1) = f (i * 16 + p * 1) := fun p hp => (h (i * 16 + p * 1) (by omega)).2 (by omega)
        have hx' := bf_good_ext (L' := fun p => (f (i * 16 + p * 1)).toInt) (fun p hp => congrArg Int32.toInt (e0 p hp)) hx
        have q1 := hfg i (j % 16) x hi (by omega) hx'
        rw [e0 x hx.1, q1, show i * 16 + j % 16 * 1 = j by omega] at e
        exact e
      · have e := h4 j (fun c hc y => z (by omega))
        rw [e]
        exact ⟨fun y => (h j hj).1 (by omega), fun y => (h j hj).2 (by omega)⟩)
theorem bf_remember (H : ∀ b, (∀ j, j < 256 → b j = a1 j) → post (a1, a2, b, a4, a5, a6, a7)) : wpX_remember post (a1, a2, a3, a4, a5, a6, a7) :=
  pk_loop (fun n i s => wX_remember_2 post n (nI i) a1 a2 s a4 a5 a6 a7) (fun i s => ∀ j, j < i → s j = a1 j) 256 0 a3 (by omega) (fun j hj => absurd hj (by omega))
    (fun n s h => pk_le 256 256 (fun _ => H s h) (fun z => absurd z (by omega)))
    (fun n i s hi h hw => by
      refine pk_le 256 i (fun z => absurd z (by omega)) (fun _ => ⟨pk_in i 256 hi, pk_in i 256 hi, nm_e (nm_r (nI_1 i) (hw _ ?_))⟩)
      rw [nI_clamp (n := i) (by omega)]
      intro j hj
      by_cases z : j = i
      · rw [z, pk_us]
      · rw [pk_un z]
        exact h j (by omega))
end
section
variable {ps : Int32 → Prop} {post : Int32 → St2 → Prop} {a1 a2 a3 a4 a5 a6 a7 : Nat → Int32}
theorem bf_changed (H : ps (nI (bf_cnt (fun j => decide (¬ a1 j = a3 j)) 256))) : wpX_changed ps (a1, a2, a3, a4, a5, a6, a7) :=
  pk_loop (σ := Unit) (fun n i _ => wX_changed_4 ps a1 a2 a3 a4 a5 a6 a7 n (nI (bf_cnt (fun j => decide (¬ a1 j = a3 j)) i)) (nI i)) (fun _ _ => True) 256 0 () (by omega) trivial
    (fun n _ _ => pk_le 256 256 (fun _ => H) (fun z => absurd z (by omega)))
    (fun n i _ hi _ hw => by
      have hw' := hw () trivial
      refine pk_le 256 i (fun z => absurd z (by omega)) (fun _ => ⟨pk_in i 256 hi, pk_in i 256 hi, ?_⟩)
      rw [nI_clamp (n := i) (by omega)]
      refine br_c (fun z => ?_) (fun z => ?_)
      · rw [bf_cnt_n (p := fun j => decide (¬ a1 j = a3 j)) (n := i) (fun e => of_decide_eq_true e z)] at hw'
        exact nm_r (nI_1 i) hw'
      · rw [bf_cnt_s (p := fun j => decide (¬ a1 j = a3 j)) (n := i) (decide_eq_true z)] at hw'
        exact nm_r (nI_1 _) (nm_r (nI_1 i) hw'))
theorem bf_bs {u : St0} {w v : Nat} (hw : w ≤ 7) (hv : v ≤ 7) (H : ps 0) : wpX_badSize ps u (nI w) (nI v) :=
  br_f (nI_pos (by omega)) (br_f (nI_nlt (a := 7) (b := w) hw (by omega)) (br_f (nI_pos (by omega)) (br_t (nI_le (a := v) (b := 7) hv (by omega)) H)))
theorem bf_bsN {u : St0} {x y : Int32} (h : x < 0 ∨ 7 < x ∨ y < 0 ∨ 7 < y) (H : ps 1) : wpX_badSize ps u x y := by
  refine br_c (fun _ => H) (fun z1 => br_c (fun _ => H) (fun z2 => br_c (fun _ => H) (fun z3 => br_c (fun z4 => ?_) (fun _ => H))))
  rcases h with h | h | h | h
  · exact absurd h z1
  · exact absurd h z2
  · exact absurd h z3
  · exact absurd z4 (Int32.not_le.mpr h)
theorem bf_dilN {x y : Int32} (h : x < 0 ∨ 7 < x ∨ y < 0 ∨ 7 < y) (H : post (-3) (a1, a2, a3, a4, a5, a6, a7)) : wpX_dilate post (a1, a2, a3, a4, a5, a6, a7) x y := by
  unfold wpX_dilate
  exact bf_bsN h (br_f (by decide) H)
theorem bf_dil {f g h : Nat → Int32} {w v : Nat} (hw7 : w ≤ 7) (hv7 : v ≤ 7)
    (hfg : ∀ i c x, i < 16 → c < 16 → bf_good (fun p => (f (i * 16 + p * 1)).toInt) w c x → f (i * 16 + x * 1) = g (i * 16 + c * 1))
    (hgh : ∀ i c x, i < 16 → c < 16 → bf_good (fun p => (g (i + p * 16)).toInt) v c x → g (i + x * 16) = h (i + c * 16))
    (hf : ∀ j, j < 256 → a1 j = f j)
    (H : ∀ r b l q, (∀ j, j < 256 → r j = h j) → (∀ j, j < 256 → b j = f j) → post (nI (bf_cnt (fun j => decide (¬ r j = b j)) 256)) (r, a2, b, l, q, a6, a7)) :
    wpX_dilate post (a1, a2, a3, a4, a5, a6, a7) (nI w) (nI v) := by
  unfold wpX_dilate
  refine bf_bs hw7 hv7 (br_t rfl (bf_remember (fun b hb => ?_)))
  refine bf_filter hw7 hv7 hfg hgh hf (fun r l q hr => ?_)
  exact bf_changed (H r b l q hr (fun j hj => (hb j hj).trans (hf j hj)))
/-- dilate of nothing -/
theorem bf_dil0 {w v : Nat} (hw7 : w ≤ 7) (hv7 : v ≤ 7) (hf : ∀ j, j < 256 → a1 j = 0)
    (H : ∀ r b l q, (∀ j, j < 256 → r j = 0) → post 0 (r, a2, b, l, q, a6, a7)) :
    wpX_dilate post (a1, a2, a3, a4, a5, a6, a7) (nI w) (nI v) := by
  refine bf_dil (f := fun _ => 0) (g := fun _ => 0) (h := fun _ => 0) hw7 hv7 (fun _ _ _ _ _ _ => rfl) (fun _ _ _ _ _ _ => rfl) hf (fun r b l q hr hb => ?_)
  rw [bf_cnt_f (p := fun j => decide (¬ r j = b j)) (fun j hj => decide_eq_false (fun z => z ((hr j hj).trans (hb j hj).symm))), nI_0]
  exact H r b l q hr
/-- dilate of one pixel -/
theorem bf_dil1 {w v r c : Nat} {V : Int32} (hw7 : w ≤ 7) (hv7 : v ≤ 7) (hr : r < 16) (hc : c < 16) (hV : 0 < V.toInt) (hf : bf_pic r (r + 1) c (c + 1) V a1)
    (H : ∀ s b l q, bf_pic (r - v) (min (r + v + 1) 16) (c - w) (min (c + w + 1) 16) V s →
      post (nI ((min (r + v + 1) 16 - (r - v)) * (min (c + w + 1) 16 - (c - w))) - 1) (s, a2, b, l, q, a6, a7)) :
    wpX_dilate post (a1, a2, a3, a4, a5, a6, a7) (nI w) (nI v) := by
  refine bf_dil (f := bf_img r (r + 1) c (c + 1) V) (g := bf_img r (r + 1) (c - w) (min (c + w + 1) 16) V) (h := bf_img (r - v) (min (r + v + 1) 16) (c - w) (min (c + w + 1) 16) V)
    hw7 hv7 (bf_rowpix hV hr hc) (bf_colpix hV hr (by omega)) (fun j hj => bf_pic_eq hf hj) (fun s b l q hs hb => ?_)
  have e := bf_cnt_chg (r := r) (c := c) hV (bf_pic_img hs) (bf_pic_img hb) (by omega) (by omega) (by omega) (by omega) (by omega) (by omega)
  have H' := H s b l q (bf_pic_img hs)
  rw [← e, nI_pred] at H'
  exact H'
end
end
section
/-! sum, threshold, pixel, set, find, join, patches -/
section
variable {ps : Int32 → Prop} {post : Int32 → St2 → Prop} {a1 a2 a3 a4 a5 a6 a7 : Nat → Int32}
theorem bf_wsum (H : ps (bf_sum a1 256)) : wpX_sum ps (a1, a2, a3, a4, a5, a6, a7) :=
  pk_loop (σ := Unit) (fun n i _ => wX_sum_4 ps a1 a2 a3 a4 a5 a6 a7 n (bf_sum a1 i) (nI i)) (fun _ _ => True) 256 0 () (by omega) trivial
    (fun n _ _ => pk_le 256 256 (fun _ => H) (fun z => absurd z (by omega)))
    (fun n i _ hi _ hw => by
      have hw' := hw () trivial
      refine pk_le 256 i (fun z => absurd z (by omega)) (fun _ => ⟨pk_in i 256 hi, ?_⟩)
      rw [nI_clamp (n := i) (by omega)]
      exact nm_e (nm_r (nI_1 i) hw'))
/-- what threshold counts -/
def bf_hi (a : Nat → Int32) (b : Int32) : Nat → Bool := fun j => decide (¬ a j < b)
theorem bf_thr {b : Int32} (H : ∀ r, (∀ j, j < 256 → (a1 j < b → r j = 0) ∧ (¬ a1 j < b → r j = 255)) → post (nI (bf_cnt (bf_hi a1 b) 256)) (r, a2, a3, a4, a5, a6, a7)) :
    wpX_threshold post (a1, a2, a3, a4, a5, a6, a7) b :=
  pk_loop (fun n i s => wX_threshold_4 post b n (nI (bf_cnt (bf_hi a1 b) i)) (nI i) s a2 a3 a4 a5 a6 a7)
    (fun i s => (∀ j, j < i → (a1 j < b → s j = 0) ∧ (¬ a1 j < b → s j = 255)) ∧ (∀ j, i ≤ j → s j = a1 j)) 256 0 a1 (by omega) ⟨fun j hj => absurd hj (by omega), fun j _ => rfl⟩
    (fun n s h => pk_le 256 256 (fun _ => H s h.1) (fun z => absurd z (by omega)))
    (fun n i s hi h hw => by
      refine pk_le 256 i (fun z => absurd z (by omega)) (fun _ => ⟨pk_in i 256 hi, ?_⟩)
      rw [nI_clamp (n := i) (by omega), h.2 i (Nat.le_refl i)]
      have step : ∀ v : Int32, ((a1 i < b → v = 0) ∧ (¬ a1 i < b → v = 255)) →
          (∀ j, j < i + 1 → (a1 j < b → upd s i v j = 0) ∧ (¬ a1 j < b → upd s i v j = 255)) ∧ (∀ j, i + 1 ≤ j → upd s i v j = a1 j) := by
        intro v hv
        refine ⟨fun j hj => ?_, fun j hj => ?_⟩
        · by_cases z : j = i
          · rw [z, pk_us]
            exact hv
          · rw [pk_un z]
            exact h.1 j (by omega)
        · rw [pk_un (by omega)]
          exact h.2 j (by omega)
      refine br_c (fun z => br_t rfl ?_) (fun z => br_f (by decide) ?_)
      · have hw' := hw (upd s i 0) (step 0 ⟨fun _ => rfl, fun y => absurd z y⟩)
        rw [bf_cnt_n (p := bf_hi a1 b) (n := i) (fun e => of_decide_eq_true e z)] at hw'
        unfold wX_threshold_45
        rw [nI_clamp (n := i) (by omega)]
        exact ⟨vp_in_nI hi (by omega), nm_e (br_t rfl (nm_r (nI_1 i) hw'))⟩
      · have hw' := hw (upd s i 255) (step 255 ⟨fun y => absurd y z, fun _ => rfl⟩)
        rw [bf_cnt_s (p := bf_hi a1 b) (n := i) (decide_eq_true z)] at hw'
        unfold wX_threshold_45
        rw [nI_clamp (n := i) (by omega)]
        exact ⟨vp_in_nI hi (by omega), nm_e (br_f (by decide) (nm_r (nI_1 _) (nm_r (nI_1 i) hw')))⟩)
theorem bf_bp {u : St0} {r c : Nat} (hr : r < 16) (hc : c < 16) (H : ps 0) : wpX_badPixel ps u (nI r) (nI c) :=
  br_f (nI_pos (by omega)) (br_f (nI_ge (a := r) (b := 16) hr (by omega)) (br_f (nI_pos (by omega)) (br_t (nI_lt (a := c) (b := 16) hc (by omega)) H)))
theorem bf_15 {x : Int32} : 15 < x ↔ 16 ≤ x := by
  rw [Int32.lt_iff_toInt_lt, Int32.le_iff_toInt_le, show (15 : Int32).toInt = 15 from by decide, show (16 : Int32).toInt = 16 from by decide]
  omega
theorem bf_bpN {u : St0} {x y : Int32} (h : x < 0 ∨ 15 < x ∨ y < 0 ∨ 15 < y) (H : ps 1) : wpX_badPixel ps u x y := by
  refine br_c (fun _ => H) (fun z1 => br_c (fun _ => H) (fun z2 => br_c (fun _ => H) (fun z3 => br_c (fun z4 => ?_) (fun _ => H))))
  rcases h with h | h | h | h
  · exact absurd h z1
  · exact absurd (bf_15.mp h) z2
  · exact absurd h z3
  · exact absurd z4 (Int32.not_lt.mpr (bf_15.mp h))
theorem bf_ix {r c : Nat} : nI r * 16 + nI c = nI (r * 16 + c) := by
  rw [show nI r * 16 = nI (r * 16) from pk_mul r 16, nI_add]
theorem bf_pix {r c : Nat} (hr : r < 16) (hc : c < 16) (H : ps (a1 (r * 16 + c))) : wpX_pixel ps (a1, a2, a3, a4, a5, a6, a7) (nI r) (nI c) := by
  unfold wpX_pixel
  rw [bf_ix, nI_clamp (n := r * 16 + c) (by omega)]
  exact bf_bp hr hc (br_t rfl ⟨vp_in_nI (by omega) (by omega), H⟩)
theorem bf_pixN {x y : Int32} (h : x < 0 ∨ 15 < x ∨ y < 0 ∨ 15 < y) (H : ps (-1)) : wpX_pixel ps (a1, a2, a3, a4, a5, a6, a7) x y := by
  unfold wpX_pixel
  exact bf_bpN h (br_f (by decide) H)
theorem bf_setN {x y v : Int32} (h : x < 0 ∨ 15 < x ∨ y < 0 ∨ 15 < y) (H : post (-1) (a1, a2, a3, a4, a5, a6, a7)) : wpX_set post (a1, a2, a3, a4, a5, a6, a7) x y v := by
  unfold wpX_set
  exact bf_bpN h (br_f (by decide) H)
theorem bf_setV {r c : Nat} {v : Int32} (hr : r < 16) (hc : c < 16) (h : v < 0 ∨ 255 < v) (H : post (-2) (a1, a2, a3, a4, a5, a6, a7)) : wpX_set post (a1, a2, a3, a4, a5, a6, a7) (nI r) (nI c) v := by
  unfold wpX_set
  refine bf_bp hr hc (br_t rfl (br_c (fun _ => H) (fun z1 => br_c (fun z2 => ?_) (fun _ => H))))
  rcases h with h | h
  · exact absurd h z1
  · exact absurd z2 (Int32.not_le.mpr h)
theorem bf_set {r c : Nat} {v : Int32} (hr : r < 16) (hc : c < 16) (h0 : ¬ v < 0) (h1 : ¬ 255 < v) (H : post (a1 (r * 16 + c)) (upd a1 (r * 16 + c) v, a2, a3, a4, a5, a6, a7)) :
    wpX_set post (a1, a2, a3, a4, a5, a6, a7) (nI r) (nI c) v := by
  unfold wpX_set
  rw [bf_ix, nI_clamp (n := r * 16 + c) (by omega)]
  exact bf_bp hr hc (br_t rfl (br_f h0 (br_t (Int32.not_lt.mp h1) ⟨vp_in_nI (by omega) (by omega), nm_e ⟨vp_in_nI (by omega) (by omega), nm_e H⟩⟩)))
theorem bf_find {k t : Nat} (hk : k < 256) (ht : t ≤ k) (h : a7 k = nI t) (h' : a7 t = nI t) (H : ps (nI t)) : wpX_find ps (a1, a2, a3, a4, a5, a6, a7) (nI k) := by
  have root : ∀ n, wX_find_2 ps a1 a2 a3 a4 a5 a6 a7 (n + 1) (nI t) := by
    intro n
    refine ⟨vp_in_nI (by omega) (by omega), ?_⟩
    rw [nI_clamp (n := t) (by omega), h']
    exact br_t (Int32.le_refl _) H
  by_cases z : t = k
  · subst z
    exact ⟨1, root 0⟩
  · refine ⟨2, vp_in_nI hk (by omega), ?_⟩
    rw [nI_clamp (n := k) (by omega), h]
    exact br_f (nI_ge (by omega) (by omega)) ⟨vp_in_nI hk (by omega), nm_e (root 0)⟩
/-- i lies under s, k under t -/
theorem bf_join {i k s t : Nat} (hi : i < 256) (hk : k < 256) (hs : s ≤ i) (ht : t ≤ k) (hts : t ≤ s) (h1 : a7 i = nI s) (h2 : a7 s = nI s) (h3 : a7 k = nI t) (h4 : a7 t = nI t)
    (H0 : s = t → post 0 (a1, a2, a3, a4, a5, a6, a7)) (H1 : t < s → post 1 (a1, a2, a3, a4, a5, a6, upd a7 s (nI t))) : wpX_join post (a1, a2, a3, a4, a5, a6, a7) (nI i) (nI k) := by
  unfold wpX_join
  refine bf_find hi hs h1 h2 (bf_find hk ht h3 h4 ?_)
  refine pk_eq s t (fun z => H0 z) (fun z => pk_le t s (fun y => ⟨vp_in_nI (by omega) (by omega), ?_⟩) (fun y => absurd y (by omega)))
  rw [nI_clamp (n := s) (by omega)]
  exact nm_e (H1 (by omega))
theorem bf_patch0 (hf : ∀ j, j < 256 → a1 j = 0) (H : ∀ l, post 0 (a1, a2, a3, a4, a5, a6, l)) : wpX_patches post (a1, a2, a3, a4, a5, a6, a7) :=
  pk_loop (fun n i s => wX_patches_4 post n 0 (nI i) a1 a2 a3 a4 a5 a6 s) (fun _ _ => True) 256 0 a7 (by omega) trivial
    (fun n s _ => pk_le 256 256 (fun _ => H s) (fun z => absurd z (by omega)))
    (fun n i s hi _ hw => by
      refine pk_le 256 i (fun z => absurd z (by omega)) (fun _ => ⟨pk_in i 256 hi, nm_e ⟨pk_in i 256 hi, br_t ?_ (nm_r (nI_1 i) (hw _ trivial))⟩⟩)
      rw [nI_clamp (n := i) (by omega), hf i hi]
      exact Int32.le_refl _)
end
end
section
/-! patches of one box: every place of it under its first place R -/
/-- the labels of the places below i -/
def bf_lab (r0 r1 c0 c1 i : Nat) (l : Nat → Int32) : Prop :=
  (∀ j, j < i → bf_in r0 r1 c0 c1 j → l j = nI (r0 * 16 + c0)) ∧ (∀ j, j < i → ¬ bf_in r0 r1 c0 c1 j → l j = nI j)
theorem bf_first {r0 r1 c0 c1 i : Nat} (hin : bf_in r0 r1 c0 c1 i) (hl : ¬ (0 < i % 16 ∧ bf_in r0 r1 c0 c1 (i - 1))) (hu : ¬ (16 ≤ i ∧ bf_in r0 r1 c0 c1 (i - 16))) : i = r0 * 16 + c0 := by
  unfold bf_in at hin hl hu
  omega
theorem bf_R_le {r0 r1 c0 c1 j : Nat} (h : bf_in r0 r1 c0 c1 j) : r0 * 16 + c0 ≤ j := by
  unfold bf_in at h
  omega
theorem bf_R_in {r0 r1 c0 c1 : Nat} (hr : r0 < r1) (hc : c0 < c1) (hc1 : c1 ≤ 16) : bf_in r0 r1 c0 c1 (r0 * 16 + c0) := by
  unfold bf_in
  omega
def bf_one (R i : Nat) : Nat := if R < i then 1 else 0
theorem bf_lab_up {r0 r1 c0 c1 i k : Nat} {l : Nat → Int32} {x : Int32} (h : bf_lab r0 r1 c0 c1 i l) (hk : i ≤ k) : bf_lab r0 r1 c0 c1 i (upd l k x) :=
  ⟨fun j hj z => by rw [pk_un (by omega)]; exact h.1 j hj z, fun j hj z => by rw [pk_un (by omega)]; exact h.2 j hj z⟩
theorem bf_lab_in {r0 r1 c0 c1 i : Nat} {l : Nat → Int32} (h : bf_lab r0 r1 c0 c1 i l) (hi : bf_in r0 r1 c0 c1 i) (e : l i = nI (r0 * 16 + c0)) : bf_lab r0 r1 c0 c1 (i + 1) l := by
  refine ⟨fun j hj z => ?_, fun j hj z => ?_⟩
  · by_cases y : j = i
    · rw [y, e]
    · exact h.1 j (by omega) z
  · by_cases y : j = i
    · rw [y] at z
      exact absurd hi z
    · exact h.2 j (by omega) z
theorem bf_lab_out {r0 r1 c0 c1 i : Nat} {l : Nat → Int32} (h : bf_lab r0 r1 c0 c1 i l) (hi : ¬ bf_in r0 r1 c0 c1 i) (e : l i = nI i) : bf_lab r0 r1 c0 c1 (i + 1) l := by
  refine ⟨fun j hj z => ?_, fun j hj z => ?_⟩
  · by_cases y : j = i
    · rw [y] at z
      exact absurd z hi
    · exact h.1 j (by omega) z
  · by_cases y : j = i
    · rw [y, e]
    · exact h.2 j (by omega) z
section
variable {post : Int32 → St2 → Prop} {J : Int32 → Int32 → (Nat → Int32) → (Nat → Int32) → (Nat → Int32) → (Nat → Int32) → (Nat → Int32) → (Nat → Int32) → (Nat → Int32) → Prop} {a1 a2 a3 a4 a5 a6 a7 : Nat → Int32} {r0 r1 c0 c1 : Nat} {V : Int32}
theorem bf_pos (hV : 0 < V.toInt) (hp : bf_pic r0 r1 c0 c1 V a1) {j : Nat} (hj : j < 256) : a1 j ≤ 0 ↔ ¬ bf_in r0 r1 c0 c1 j := by
  by_cases z : bf_in r0 r1 c0 c1 j
  · rw [hp.1 j hj z, Int32.le_iff_toInt_le, show (0 : Int32).toInt = 0 from by decide]
    exact ⟨fun y => absurd y (by omega), fun y => absurd z y⟩
  · rw [hp.2 j hj z]
    exact ⟨fun _ => z, fun _ => Int32.le_refl _⟩
/-- the place above, where place i is not joined yet -/
theorem bf_62a {i N : Nat} (hV : 0 < V.toInt) (hp : bf_pic r0 r1 c0 c1 V a1) (hr : r0 < r1) (hr1 : r1 ≤ 16) (hc : c0 < c1) (hc1 : c1 ≤ 16) (hi : i < 256) (hin : bf_in r0 r1 c0 c1 i)
    (hl : ¬ (0 < i % 16 ∧ bf_in r0 r1 c0 c1 (i - 1))) (h7 : bf_lab r0 r1 c0 c1 i a7) (h7i : a7 i = nI i) (hN : N = bf_one (r0 * 16 + c0) i)
    (hJ : ∀ l, bf_lab r0 r1 c0 c1 (i + 1) l → J (nI 1) (nI (i + 1)) a1 a2 a3 a4 a5 a6 l) :
    wX_patches_62 post J (nI (N + 1)) (nI i) a1 a2 a3 a4 a5 a6 a7 := by
  have fin : ¬ (16 ≤ i ∧ bf_in r0 r1 c0 c1 (i - 16)) → J (nI (N + 1)) (nI (i + 1)) a1 a2 a3 a4 a5 a6 a7 := by
    intro z
    have e := bf_first hin hl z
    rw [hN, bf_one, if_neg (by omega)]
    exact hJ a7 (bf_lab_in h7 hin (by rw [h7i, ← e]))
  unfold wX_patches_62
  refine pk_lt i 16 (fun z => nm_r (nI_1 i) (fin (fun y => absurd y.1 (by omega)))) (fun z => ?_)
  have e16 : nI i - 16 = nI (i - 16) := pk_sub (a := i) (b := 16) z
  rw [e16, nI_clamp (n := i - 16) (by omega)]
  refine ⟨vp_in_nI (by omega) (by omega), ek_if (bf_pos hV hp (by omega)) (fun y => nm_r (nI_1 i) (fin (fun x => y x.2))) (fun y => ?_)⟩
  have up : bf_in r0 r1 c0 c1 (i - 16) := Classical.not_not.mp y
  have hR : r0 * 16 + c0 ≤ i - 16 := bf_R_le up
  have hRin : bf_in r0 r1 c0 c1 (r0 * 16 + c0) := bf_R_in hr hc hc1
  refine bf_join (s := i) (t := r0 * 16 + c0) hi (by omega) (Nat.le_refl i) hR (by omega) h7i h7i (h7.1 _ (by omega) up) (h7.1 _ (by omega) hRin) (fun x => absurd x (by omega)) (fun x => ?_)
  refine br_f (by decide) (nm_r (pk_m1 N) (nm_r (nI_1 i) ?_))
  rw [hN, bf_one, if_pos x]
  exact hJ _ (bf_lab_in (bf_lab_up h7 (Nat.le_refl i)) hin pk_us)
/-- the place above, where place i is joined already -/
theorem bf_62b {i : Nat} (hV : 0 < V.toInt) (hp : bf_pic r0 r1 c0 c1 V a1) (hr : r0 < r1) (hr1 : r1 ≤ 16) (hc : c0 < c1) (hc1 : c1 ≤ 16) (hi : i < 256) (hin : bf_in r0 r1 c0 c1 i)
    (hR : r0 * 16 + c0 < i) (h7 : bf_lab r0 r1 c0 c1 (i + 1) a7)
    (hJ : ∀ l, bf_lab r0 r1 c0 c1 (i + 1) l → J (nI 1) (nI (i + 1)) a1 a2 a3 a4 a5 a6 l) :
    wX_patches_62 post J (nI 1) (nI i) a1 a2 a3 a4 a5 a6 a7 := by
  unfold wX_patches_62
  refine pk_lt i 16 (fun z => nm_r (nI_1 i) (hJ a7 h7)) (fun z => ?_)
  have e16 : nI i - 16 = nI (i - 16) := pk_sub (a := i) (b := 16) z
  rw [e16, nI_clamp (n := i - 16) (by omega)]
  refine ⟨vp_in_nI (by omega) (by omega), ek_if (bf_pos hV hp (by omega)) (fun y => nm_r (nI_1 i) (hJ a7 h7)) (fun y => ?_)⟩
  have up : bf_in r0 r1 c0 c1 (i - 16) := Classical.not_not.mp y
  have hR' : r0 * 16 + c0 ≤ i - 16 := bf_R_le up
  have hRin : bf_in r0 r1 c0 c1 (r0 * 16 + c0) := bf_R_in hr hc hc1
  exact bf_join (s := r0 * 16 + c0) (t := r0 * 16 + c0) hi (by omega) (by omega) hR' (Nat.le_refl _) (h7.1 i (by omega) hin) (h7.1 _ (by omega) hRin) (h7.1 _ (by omega) up) (h7.1 _ (by omega) hRin)
    (fun _ => br_t rfl (nm_r (nI_1 i) (hJ a7 h7))) (fun x => absurd x (Nat.lt_irrefl _))
theorem bf_patch1 (hV : 0 < V.toInt) (hp : bf_pic r0 r1 c0 c1 V a1) (hr : r0 < r1) (hr1 : r1 ≤ 16) (hc : c0 < c1) (hc1 : c1 ≤ 16)
    (H : ∀ l, post 1 (a1, a2, a3, a4, a5, a6, l)) : wpX_patches post (a1, a2, a3, a4, a5, a6, a7) :=
  pk_loop (fun n i s => wX_patches_4 post n (nI (bf_one (r0 * 16 + c0) i)) (nI i) a1 a2 a3 a4 a5 a6 s) (fun i s => bf_lab r0 r1 c0 c1 i s) 256 0 a7 (by omega)
    ⟨fun j hj => absurd hj (by omega), fun j hj => absurd hj (by omega)⟩
    (fun n s _ => pk_le 256 256 (fun _ => by
      show post (nI (bf_one (r0 * 16 + c0) 256)) (a1, a2, a3, a4, a5, a6, s)
      rw [bf_one, if_pos (by omega)]
      exact H s) (fun z => absurd z (by omega)))
    (fun n i s hi h hw => by
      have hRin : bf_in r0 r1 c0 c1 (r0 * 16 + c0) := bf_R_in hr hc hc1
      refine pk_le 256 i (fun z => absurd z (by omega)) (fun _ => ⟨pk_in i 256 hi, nm_e ⟨pk_in i 256 hi, ?_⟩⟩)
      have er : nI i - nI i / 16 * 16 = nI (i % 16) := pk_rem (a := i) (d := 16) (by omega) (by omega) (by omega)
      have h0 : bf_lab r0 r1 c0 c1 i (upd s i (nI i)) := bf_lab_up h (Nat.le_refl i)
      have h0i : upd s i (nI i) i = nI i := pk_us
      rw [nI_clamp (n := i) (by omega), er]
      refine ek_if (bf_pos hV hp hi) (fun z => nm_r (nI_1 i) ?_) (fun z => ?_)
      · have hne : i ≠ r0 * 16 + c0 := fun e => z (by rw [e]; exact hRin)
        have e1 : bf_one (r0 * 16 + c0) (i + 1) = bf_one (r0 * 16 + c0) i := by
          unfold bf_one
          by_cases y : r0 * 16 + c0 < i
          · rw [if_pos y, if_pos (by omega)]
          · rw [if_neg y, if_neg (by omega)]
        have hw' := hw _ (bf_lab_out h0 z h0i)
        rw [e1] at hw'
        exact hw'
      · have hin : bf_in r0 r1 c0 c1 i := Classical.not_not.mp z
        have hRi : r0 * 16 + c0 ≤ i := bf_R_le hin
        have e1 : bf_one (r0 * 16 + c0) (i + 1) = 1 := if_pos (by omega)
        have hJ : ∀ l, bf_lab r0 r1 c0 c1 (i + 1) l → wX_patches_4 post n (nI 1) (nI (i + 1)) a1 a2 a3 a4 a5 a6 l := by
          intro l hl
          have hw' := hw l hl
          rw [e1] at hw'
          exact hw'
        refine nm_r (nI_1 _) ⟨by decide, pk_le (i % 16) 0 (fun y => ?_) (fun y => ?_)⟩
        · exact bf_62a hV hp hr hr1 hc hc1 hi hin (fun x => absurd x.1 (by omega)) h0 h0i rfl hJ
        · have em : nI i - 1 = nI (i - 1) := pk_sub (a := i) (b := 1) (by omega)
          rw [em, nI_clamp (n := i - 1) (by omega)]
          refine ⟨vp_in_nI (by omega) (by omega), ek_if (bf_pos hV hp (by omega)) (fun x => ?_) (fun x => ?_)⟩
          · exact bf_62a hV hp hr hr1 hc hc1 hi hin (fun q => x q.2) h0 h0i rfl hJ
          · have lf : bf_in r0 r1 c0 c1 (i - 1) := Classical.not_not.mp x
            have hR' : r0 * 16 + c0 ≤ i - 1 := bf_R_le lf
            refine bf_join (s := i) (t := r0 * 16 + c0) hi (by omega) (Nat.le_refl i) hR' (by omega) h0i h0i (h0.1 _ (by omega) lf) (h0.1 _ (by omega) hRin) (fun q => absurd q (by omega)) (fun q => ?_)
            refine br_f (by decide) (nm_r (pk_m1 _) ?_)
            rw [show bf_one (r0 * 16 + c0) i = 1 from if_pos q]
            exact bf_62b hV hp hr hr1 hc hc1 hi hin q (bf_lab_in (bf_lab_up h0 (Nat.le_refl i)) hin pk_us) hJ)
end
end
section
/-! the law, from its end to its start -/
/-- the pixel's word x7 over row x0, column x1 -/
def bf_px (x0 x1 x7 : Int32) : Prop := (x7 = 0 ∧ (x0 < 0 ∨ 15 < x0 ∨ x1 < 0 ∨ 15 < x1)) ∨ (x7 = 1 ∧ ∃ r c, r < 16 ∧ c < 16 ∧ x0 = nI r ∧ x1 = nI c)
/-- the size's word x9 over x3, x4 -/
def bf_sz (x3 x4 x9 : Int32) : Prop := (x9 = 0 ∧ (x3 < 0 ∨ 7 < x3 ∨ x4 < 0 ∨ 7 < x4)) ∨ (x9 = 1 ∧ ∃ w v, w ≤ 7 ∧ v ≤ 7 ∧ x3 = nI w ∧ x4 = nI v)
theorem bf_le0 {a b : Int32} (h : 0 < a) (e : ¬ 0 < b) : ¬ a < b := by
  rw [Int32.lt_iff_toInt_lt] at *
  omega
theorem bf_10 : ¬ (1 : Int32) = 0 := by decide
section
variable {post : Int32 → St0 → Prop} {mc ms kc ks : Nat} {x0 x1 x2 x3 x4 x5 x7 x8 x9 x10 x12 x13 z0 z1 : Int32} {a1 a2 a3 a4 a5 a6 a7 : Nat → Int32}
/-! an empty raster -/
theorem bf_345A (hp : post 1 ()) (hx : bf_px x0 x1 x7) (hf : ∀ j, j < 256 → a1 j = 0) (hz : x13 = 0) (e1 : ¬ 0 < x5 → z0 = 256) (e0 : 0 < x5 → z0 = 0) :
    wL_lawOf_345 post mc ms x0 x1 x2 x5 x7 x13 z0 kc ks a1 a2 a3 a4 a5 a6 a7 := by
  unfold wL_lawOf_345
  refine bf_thr (fun r hr => ?_)
  by_cases z : 0 < x5
  · have ec : bf_cnt (bf_hi a1 x5) 256 = 0 := bf_cnt_f (fun j hj => decide_eq_false (fun y => y (by rw [hf j hj]; exact z)))
    refine br_t ((congrArg nI ec).trans (e0 z).symm) ?_
    rcases hx with ⟨h7, hb⟩ | ⟨h7, r', c, hr', hc, rfl, rfl⟩
    · exact bf_pixN hb (br_t h7 (br_t rfl hp))
    · exact bf_pix hr' hc (br_f (by rw [h7]; decide) (br_f (Int32.not_le.mpr z) (br_t (by rw [hz]; exact Int32.le_refl _) (br_t ((hr _ (by omega)).1 (by rw [hf _ (by omega)]; exact z)) hp))))
  · have ec : bf_cnt (bf_hi a1 x5) 256 = 256 := bf_cnt_t (fun j hj => decide_eq_true (by rw [hf j hj]; exact z))
    refine br_t ((congrArg nI ec).trans (e1 z).symm) ?_
    rcases hx with ⟨h7, hb⟩ | ⟨h7, r', c, hr', hc, rfl, rfl⟩
    · exact bf_pixN hb (br_t h7 (br_t rfl hp))
    · exact bf_pix hr' hc (br_f (by rw [h7]; decide) (br_t (Int32.not_lt.mp z) (br_t ((hr _ (by omega)).2 (by rw [hf _ (by omega)]; exact z)) hp)))
theorem bf_278A (hp : post 1 ()) (hx : bf_px x0 x1 x7) (hf : ∀ j, j < 256 → a1 j = 0) :
    wL_lawOf_278 post mc ms x0 x1 x2 x5 x7 0 kc ks a1 a2 a3 a4 a5 a6 a7 := by
  have h312 : ∀ l, wL_lawOf_312 post mc ms x0 x1 x2 x5 x7 0 0 0 kc ks a1 a2 a3 a4 a5 a6 l := fun l =>
    br_t rfl (br_c (fun z => br_t (Int32.le_refl _) (bf_345A hp hx hf rfl (fun y => absurd z y) (fun _ => rfl))) (fun z => bf_345A hp hx hf rfl (fun _ => rfl) (fun y => absurd y z)))
  have h297 : wL_lawOf_297 post mc ms x0 x1 x2 x5 x7 0 kc ks a1 a2 a3 a4 a5 a6 a7 := by
    unfold wL_lawOf_297
    exact bf_patch0 hf (fun l => br_t (Int32.le_refl _) (h312 l))
  unfold wL_lawOf_278
  exact bf_wsum (br_c (fun _ => h297) (fun _ => br_f (by decide) h297))
theorem bf_216A (hp : post 1 ()) (hx : bf_px x0 x1 x7) (hs : bf_sz x3 x4 x9) (h8 : x8 = 0 ∨ x2 ≤ 0) (hf : ∀ j, j < 256 → a1 j = 0) :
    wL_lawOf_216 post mc ms x0 x1 x2 x3 x4 x5 x7 x8 x9 0 kc ks a1 a2 a3 a4 a5 a6 a7 := by
  unfold wL_lawOf_216
  rcases hs with ⟨h9, hb⟩ | ⟨h9, w, v, hw, hv, rfl, rfl⟩
  · refine bf_dilN hb (br_t h9 (br_t rfl (br_t h9 (br_c (fun _ => bf_278A hp hx hf) (fun z => br_t ?_ (bf_278A hp hx hf))))))
    rcases h8 with h8 | h8
    · exact absurd h8 z
    · exact h8
  · have n9 : ¬ x9 = 0 := by rw [h9]; decide
    exact bf_dil0 hw hv hf (fun r b l q hr => br_f n9 (br_t (Int32.le_refl _) (br_t rfl (br_f n9 (bf_278A hp hx hr)))))
/-! a box -/
theorem bf_345B {r c r0 r1 c0 c1 N : Nat} (hp : post 1 ()) (h7 : x7 = 1) (hV : 0 < x2.toInt) (hpic : bf_pic r0 r1 c0 c1 x2 a1)
    (h1 : r0 ≤ r) (h2 : r < r1) (h3 : r1 ≤ 16) (h4 : c0 ≤ c) (h5 : c < c1) (h6 : c1 ≤ 16) (hN : N = (r1 - r0) * (c1 - c0)) (hz : x13 = nI N)
    (e1 : ¬ 0 < x5 → z0 = 256) (e0 : 0 < x5 → x2 < x5 → z0 = 0) (e2 : 0 < x5 → ¬ x2 < x5 → z0 = x13) :
    wL_lawOf_345 post mc ms (nI r) (nI c) x2 x5 x7 x13 z0 kc ks a1 a2 a3 a4 a5 a6 a7 := by
  have hr' : r < 16 := by omega
  have hc' : c < 16 := by omega
  have hN0 : 0 < N := by rw [hN]; exact Nat.mul_pos (by omega) (by omega)
  have hNc : bf_cnt (bf_inB r0 r1 c0 c1) 256 = N := (bf_cnt_256 (by omega) h3 (by omega) h6).trans hN.symm
  have hN1 : N ≤ 256 := by rw [← hNc]; exact bf_cnt_le _ _
  have hin : bf_in r0 r1 c0 c1 (r * 16 + c) := by unfold bf_in; omega
  have hpx : a1 (r * 16 + c) = x2 := hpic.1 _ (by omega) hin
  have n7 : ¬ x7 = 0 := by rw [h7]; decide
  have n13 : ¬ x13 ≤ 0 := by rw [hz]; exact nI_nle hN0 (by omega)
  have hV' : (0 : Int32) < x2 := by
    rw [Int32.lt_iff_toInt_lt]
    exact hV
  unfold wL_lawOf_345
  refine bf_thr (fun s hs => ?_)
  have hs0 := hs (r * 16 + c) (by omega)
  rw [hpx] at hs0
  by_cases z : 0 < x5
  · by_cases y : x2 < x5
    · have ec : bf_cnt (bf_hi a1 x5) 256 = 0 := by
        refine bf_cnt_f (fun j hj => decide_eq_false (fun q => q ?_))
        by_cases g : bf_in r0 r1 c0 c1 j
        · rw [hpic.1 j hj g]
          exact y
        · rw [hpic.2 j hj g]
          exact z
      exact br_t ((congrArg nI ec).trans (e0 z y).symm) (bf_pix hr' hc' (br_f n7 (br_f (Int32.not_le.mpr z) (br_f n13 (br_t y (br_t (hs0.1 y) hp))))))
    · have ec : bf_cnt (bf_hi a1 x5) 256 = N := by
        rw [← hNc]
        refine bf_cnt_ext (fun j hj => ?_)
        by_cases g : bf_in r0 r1 c0 c1 j
        · rw [bf_inB_iff.mpr g]
          refine decide_eq_true ?_
          rw [hpic.1 j hj g]
          exact y
        · have e3 : bf_inB r0 r1 c0 c1 j = false := by
            cases q : bf_inB r0 r1 c0 c1 j with
            | false => rfl
            | true => exact absurd (bf_inB_iff.mp q) g
          rw [e3]
          refine decide_eq_false (fun q => q ?_)
          rw [hpic.2 j hj g]
          exact z
      exact br_t (((congrArg nI ec).trans hz.symm).trans (e2 z y).symm) (bf_pix hr' hc' (br_f n7 (br_f (Int32.not_le.mpr z) (br_f n13 (br_f y (br_t (hs0.2 y) hp))))))
  · have y : ¬ x2 < x5 := bf_le0 hV' z
    have ec : bf_cnt (bf_hi a1 x5) 256 = 256 := by
      refine bf_cnt_t (fun j hj => decide_eq_true ?_)
      by_cases g : bf_in r0 r1 c0 c1 j
      · rw [hpic.1 j hj g]
        exact y
      · rw [hpic.2 j hj g]
        exact z
    exact br_t ((congrArg nI ec).trans (e1 z).symm) (bf_pix hr' hc' (br_f n7 (br_t (Int32.not_lt.mp z) (br_t (hs0.2 y) hp))))
theorem bf_278B {r c r0 r1 c0 c1 N : Nat} (hp : post 1 ()) (h7 : x7 = 1) (hV : 0 < x2.toInt) (hpic : bf_pic r0 r1 c0 c1 x2 a1)
    (h1 : r0 ≤ r) (h2 : r < r1) (h3 : r1 ≤ 16) (h4 : c0 ≤ c) (h5 : c < c1) (h6 : c1 ≤ 16) (hN : N = (r1 - r0) * (c1 - c0)) (hz : z0 = nI N) :
    wL_lawOf_278 post mc ms (nI r) (nI c) x2 x5 x7 z0 kc ks a1 a2 a3 a4 a5 a6 a7 := by
  have hN0 : 0 < N := by rw [hN]; exact Nat.mul_pos (by omega) (by omega)
  have hNc : bf_cnt (bf_inB r0 r1 c0 c1) 256 = N := (bf_cnt_256 (by omega) h3 (by omega) h6).trans hN.symm
  have hN1 : N ≤ 256 := by rw [← hNc]; exact bf_cnt_le _ _
  have n13 : ¬ z0 ≤ 0 := by rw [hz]; exact nI_nle hN0 (by omega)
  have h345 : ∀ (y : Int32) (l : Nat → Int32), (¬ 0 < x5 → y = 256) → (0 < x5 → x2 < x5 → y = 0) → (0 < x5 → ¬ x2 < x5 → y = z0) → wL_lawOf_345 post mc ms (nI r) (nI c) x2 x5 x7 z0 y kc ks a1 a2 a3 a4 a5 a6 l :=
    fun y l e1 e0 e2 => bf_345B hp h7 hV hpic h1 h2 h3 h4 h5 h6 hN hz e1 e0 e2
  have h312 : ∀ l, wL_lawOf_312 post mc ms (nI r) (nI c) x2 x5 x7 z0 1 1 kc ks a1 a2 a3 a4 a5 a6 l := fun l =>
    br_t rfl (br_c (fun z => br_f n13 (br_c (fun y => h345 0 l (fun q => absurd z q) (fun _ _ => rfl) (fun _ q => absurd y q)) (fun y => h345 z0 l (fun q => absurd z q) (fun _ q => absurd q y) (fun _ _ => rfl))))
      (fun z => h345 256 l (fun _ => rfl) (fun q => absurd q z) (fun q => absurd q z)))
  have h297 : wL_lawOf_297 post mc ms (nI r) (nI c) x2 x5 x7 z0 kc ks a1 a2 a3 a4 a5 a6 a7 := by
    unfold wL_lawOf_297
    exact bf_patch1 hV hpic (by omega) h3 (by omega) h6 (fun l => br_f n13 (h312 l))
  unfold wL_lawOf_278
  refine bf_wsum (br_t ?_ h297)
  rw [hz, hN]
  exact bf_sum_pic hpic (by omega) h3 (by omega) h6
theorem bf_216N {r c : Nat} (hp : post 1 ()) (h7 : x7 = 1) (h8 : x8 = 1) (hV : 0 < x2.toInt) (hpic : bf_pic r (r + 1) c (c + 1) x2 a1) (hr : r < 16) (hc : c < 16)
    (h9 : x9 = 0) (hb : x3 < 0 ∨ 7 < x3 ∨ x4 < 0 ∨ 7 < x4) :
    wL_lawOf_216 post mc ms (nI r) (nI c) x2 x3 x4 x5 x7 x8 x9 z0 kc ks a1 a2 a3 a4 a5 a6 a7 := by
  have n2 : ¬ x2 ≤ 0 := by
    rw [Int32.le_iff_toInt_le, show (0 : Int32).toInt = 0 from by decide]
    omega
  unfold wL_lawOf_216
  exact bf_dilN hb (br_t h9 (br_t rfl (br_t h9 (br_f (by rw [h8]; decide) (br_f n2 (bf_278B (N := 1) hp h7 hV hpic (Nat.le_refl r) (by omega) (by omega) (Nat.le_refl c) (by omega) (by omega)
    (by rw [show r + 1 - r = 1 by omega, show c + 1 - c = 1 by omega]) rfl))))))
theorem bf_216G {r c w v N : Nat} (hp : post 1 ()) (h7 : x7 = 1) (hV : 0 < x2.toInt) (hpic : bf_pic r (r + 1) c (c + 1) x2 a1) (hr : r < 16) (hc : c < 16)
    (h9 : x9 = 1) (hw : w ≤ 7) (hv : v ≤ 7) (hN : N = (min (r + v + 1) 16 - (r - v)) * (min (c + w + 1) 16 - (c - w))) (hz : z0 = nI N) :
    wL_lawOf_216 post mc ms (nI r) (nI c) x2 (nI w) (nI v) x5 x7 x8 x9 z0 kc ks a1 a2 a3 a4 a5 a6 a7 := by
  have hN0 : 0 < N := by rw [hN]; exact Nat.mul_pos (by omega) (by omega)
  have hNc : bf_cnt (bf_inB (r - v) (min (r + v + 1) 16) (c - w) (min (c + w + 1) 16)) 256 = N := (bf_cnt_256 (by omega) (by omega) (by omega) (by omega)).trans hN.symm
  have hN1 : N ≤ 256 := by rw [← hNc]; exact bf_cnt_le _ _
  have n13 : ¬ z0 ≤ 0 := by rw [hz]; exact nI_nle hN0 (by omega)
  have n9 : ¬ x9 = 0 := by rw [h9]; decide
  unfold wL_lawOf_216
  refine bf_dil1 hw hv hr hc hV hpic (fun s b l q hs => br_f n9 (br_f n13 (br_t ?_ (br_f n9 (bf_278B hp h7 hV hs (by omega) (by omega) (by omega) (by omega) (by omega) (by omega) hN hz)))))
  rw [hz, hN]
/-! wide, high -/
theorem bf_119N (h : x8 = 0 ∨ x2 ≤ 0 ∨ x9 = 0) (H : wL_lawOf_216 post mc ms x0 x1 x2 x3 x4 x5 x7 x8 x9 0 kc ks a1 a2 a3 a4 a5 a6 a7) :
    wL_lawOf_119 post mc ms x0 x1 x2 x3 x4 x5 x7 x8 x9 kc ks a1 a2 a3 a4 a5 a6 a7 := by
  have h188 : ∀ y10 y0 y1, wL_lawOf_188 post mc ms x0 x1 x2 x3 x4 x5 x7 x8 x9 y10 y0 y1 kc ks a1 a2 a3 a4 a5 a6 a7 := fun y10 y0 y1 =>
    nm_e (br_c (fun _ => H) (fun q1 => br_c (fun _ => H) (fun q2 => br_c (fun _ => H) (fun q3 => by
      rcases h with h | h | h
      · exact absurd h q1
      · exact absurd h q2
      · exact absurd h q3))))
  have h173 : ∀ y10 y0, wL_lawOf_173 post mc ms x0 x1 x2 x3 x4 x5 x7 x8 x9 y10 y0 kc ks a1 a2 a3 a4 a5 a6 a7 := fun y10 y0 => br_c (fun _ => h188 _ _ _) (fun _ => h188 _ _ _)
  have h150 : ∀ y0 y1, wL_lawOf_150 post mc ms x0 x1 x2 x3 x4 x5 x7 x8 x9 y0 y1 kc ks a1 a2 a3 a4 a5 a6 a7 := fun y0 y1 => nm_e (br_c (fun _ => h173 _ _) (fun _ => h173 _ _))
  have h137 : ∀ y0, wL_lawOf_137 post mc ms x0 x1 x2 x3 x4 x5 x7 x8 x9 y0 kc ks a1 a2 a3 a4 a5 a6 a7 := fun y0 => br_c (fun _ => h150 _ _) (fun _ => h150 _ _)
  exact br_c (fun _ => h137 _) (fun _ => h137 _)
theorem bf_119G {r c w v : Nat} (hr : r < 16) (hc : c < 16) (hw : w ≤ 7) (hv : v ≤ 7) (n8 : ¬ x8 = 0) (n2 : ¬ x2 ≤ 0) (n9 : ¬ x9 = 0)
    (H : wL_lawOf_216 post mc ms (nI r) (nI c) x2 (nI w) (nI v) x5 x7 x8 x9 (nI ((min (r + v + 1) 16 - (r - v)) * (min (c + w + 1) 16 - (c - w)))) kc ks a1 a2 a3 a4 a5 a6 a7) :
    wL_lawOf_119 post mc ms (nI r) (nI c) x2 (nI w) (nI v) x5 x7 x8 x9 kc ks a1 a2 a3 a4 a5 a6 a7 := by
  have eW : nI (min (c + w) 15) - nI (c - w) + 1 = nI (min (c + w + 1) 16 - (c - w)) := by
    rw [pk_sub (by omega), nI_1]
    exact congrArg nI (by omega)
  have eH : nI (min (r + v) 15) - nI (r - v) + 1 = nI (min (r + v + 1) 16 - (r - v)) := by
    rw [pk_sub (by omega), nI_1]
    exact congrArg nI (by omega)
  have h188 : ∀ y0 y1, y0 = nI (r - v) → y1 = nI (min (r + v) 15) → wL_lawOf_188 post mc ms (nI r) (nI c) x2 (nI w) (nI v) x5 x7 x8 x9 (nI (min (c + w + 1) 16 - (c - w))) y0 y1 kc ks a1 a2 a3 a4 a5 a6 a7 := by
    intro y0 y1 e0 e1
    subst e0 e1
    refine nm_r eH (br_f n8 (br_f n2 (br_f n9 ?_)))
    rw [pk_mul, Nat.mul_comm]
    exact H
  have h173 : ∀ y1, y1 = nI (min (r + v) 15) → wL_lawOf_173 post mc ms (nI r) (nI c) x2 (nI w) (nI v) x5 x7 x8 x9 (nI (min (c + w + 1) 16 - (c - w))) y1 kc ks a1 a2 a3 a4 a5 a6 a7 := by
    intro y1 e1
    by_cases z : v ≤ r
    · exact br_t (by rw [pk_sub z]; exact nI_pos' (by omega)) (h188 _ _ (pk_sub z) e1)
    · exact br_f (Int32.not_le.mpr (pk_sneg (by omega) (by omega))) (h188 _ _ (by rw [show r - v = 0 by omega]; rfl) e1)
  have h150 : ∀ y0 y1, y0 = nI (c - w) → y1 = nI (min (c + w) 15) → wL_lawOf_150 post mc ms (nI r) (nI c) x2 (nI w) (nI v) x5 x7 x8 x9 y0 y1 kc ks a1 a2 a3 a4 a5 a6 a7 := by
    intro y0 y1 e0 e1
    subst e0 e1
    exact nm_r eW (pk_le (r + v) 15 (fun z => h173 _ (by rw [nI_add, show min (r + v) 15 = r + v by omega])) (fun z => h173 _ (by rw [show min (r + v) 15 = 15 by omega]; rfl)) (hx := nI_add r v))
  have h137 : ∀ y1, y1 = nI (min (c + w) 15) → wL_lawOf_137 post mc ms (nI r) (nI c) x2 (nI w) (nI v) x5 x7 x8 x9 y1 kc ks a1 a2 a3 a4 a5 a6 a7 := by
    intro y1 e1
    by_cases z : w ≤ c
    · exact br_t (by rw [pk_sub z]; exact nI_pos' (by omega)) (h150 _ _ (pk_sub z) e1)
    · exact br_f (Int32.not_le.mpr (pk_sneg (by omega) (by omega))) (h150 _ _ (by rw [show c - w = 0 by omega]; rfl) e1)
  exact pk_le (c + w) 15 (fun z => h137 _ (by rw [nI_add, show min (c + w) 15 = c + w by omega])) (fun z => h137 _ (by rw [show min (c + w) 15 = 15 by omega]; rfl)) (hx := nI_add c w)
theorem bf_87 (e : z1 = z0) (H0 : (x3 < 0 ∨ 7 < x3 ∨ x4 < 0 ∨ 7 < x4) → wL_lawOf_119 post mc ms x0 x1 x2 x3 x4 x5 x7 x8 0 kc ks a1 a2 a3 a4 a5 a6 a7)
    (H1 : ∀ w v, w ≤ 7 → v ≤ 7 → x3 = nI w → x4 = nI v → wL_lawOf_119 post mc ms x0 x1 x2 x3 x4 x5 x7 x8 1 kc ks a1 a2 a3 a4 a5 a6 a7) :
    wL_lawOf_87 post mc ms x0 x1 x2 x3 x4 x5 x7 x8 z0 z1 kc ks a1 a2 a3 a4 a5 a6 a7 := by
  refine br_t e (br_c (fun z => H0 (Or.inl z)) (fun q1 => br_c (fun z => H0 (Or.inr (Or.inl z))) (fun q2 => br_c (fun z => H0 (Or.inr (Or.inr (Or.inl z)))) (fun q3 => br_c (fun z => H0 (Or.inr (Or.inr (Or.inr z)))) (fun q4 => ?_)))))
  obtain ⟨w, hw, ew⟩ := nI_of2 (M := 7) (n := 7) (by decide) q1 (Int32.not_lt.mp q2)
  obtain ⟨v, hv, ev⟩ := nI_of2 (M := 7) (n := 7) (by decide) q3 (Int32.not_lt.mp q4)
  exact H1 w v hw hv ew ev
/-- an empty raster behind 'set' -/
theorem bf_87A (hp : post 1 ()) (e : z1 = z0) (hx : bf_px x0 x1 x7) (h8 : x8 = 0 ∨ x2 ≤ 0) (hf : ∀ j, j < 256 → a1 j = 0) :
    wL_lawOf_87 post mc ms x0 x1 x2 x3 x4 x5 x7 x8 z0 z1 kc ks a1 a2 a3 a4 a5 a6 a7 := by
  have h8' : ∀ y : Int32, x8 = 0 ∨ x2 ≤ 0 ∨ y = 0 := fun y => by
    rcases h8 with h | h
    · exact Or.inl h
    · exact Or.inr (Or.inl h)
  exact bf_87 e (fun hb => bf_119N (h8' _) (bf_216A hp hx (Or.inl ⟨rfl, hb⟩) h8 hf)) (fun w v hw hv ew ev => bf_119N (h8' _) (bf_216A hp hx (Or.inr ⟨rfl, w, v, hw, hv, ew, ev⟩) h8 hf))
/-- one pixel behind 'set' -/
theorem bf_87B {r c : Nat} (hp : post 1 ()) (e : z1 = z0) (h7 : x7 = 1) (h8 : x8 = 1) (hV : 0 < x2.toInt) (hpic : bf_pic r (r + 1) c (c + 1) x2 a1) (hr : r < 16) (hc : c < 16) :
    wL_lawOf_87 post mc ms (nI r) (nI c) x2 x3 x4 x5 x7 x8 z0 z1 kc ks a1 a2 a3 a4 a5 a6 a7 := by
  have n2 : ¬ x2 ≤ 0 := by
    rw [Int32.le_iff_toInt_le, show (0 : Int32).toInt = 0 from by decide]
    omega
  refine bf_87 e (fun hb => bf_119N (Or.inr (Or.inr rfl)) (bf_216N hp h7 h8 hV hpic hr hc rfl hb)) (fun w v hw hv ew ev => ?_)
  subst ew ev
  exact bf_119G hr hc hw hv (by rw [h8]; decide) n2 (by decide) (bf_216G hp h7 hV hpic hr hc rfl hw hv rfl rfl)
theorem bf_34N (hp : post 1 ()) (hb : x0 < 0 ∨ 15 < x0 ∨ x1 < 0 ∨ 15 < x1) (hf : ∀ j, a1 j = 0) :
    wL_lawOf_34 post mc ms x0 x1 x2 x3 x4 x5 0 kc ks a1 a2 a3 a4 a5 a6 a7 := by
  refine br_t rfl ?_
  unfold wL_lawOf_56 wL_lawOf_57
  exact bf_setN hb (br_t rfl (bf_87A hp rfl (Or.inl ⟨rfl, hb⟩) (Or.inl rfl) (fun j _ => hf j)))
theorem bf_34G {r c : Nat} (hp : post 1 ()) (hr : r < 16) (hc : c < 16) (hf : ∀ j, a1 j = 0) :
    wL_lawOf_34 post mc ms (nI r) (nI c) x2 x3 x4 x5 1 kc ks a1 a2 a3 a4 a5 a6 a7 := by
  have hx : bf_px (nI r) (nI c) 1 := Or.inr ⟨rfl, r, c, hr, hc, rfl, rfl⟩
  have bad : (x2 < 0 ∨ 255 < x2) → wL_lawOf_56 post mc ms (nI r) (nI c) x2 x3 x4 x5 1 kc ks a1 a2 a3 a4 a5 a6 a7 := by
    intro h
    unfold wL_lawOf_56 wL_lawOf_57
    exact bf_setV hr hc h (br_f bf_10 (br_t rfl (bf_87A hp rfl hx (Or.inl rfl) (fun j _ => hf j))))
  refine br_f bf_10 (br_c (fun z => bad (Or.inl z)) (fun q1 => br_c (fun z => bad (Or.inr z)) (fun q2 => ?_)))
  unfold wL_lawOf_57
  refine bf_set hr hc q1 q2 (br_f bf_10 (br_f bf_10 ?_))
  by_cases z : x2 ≤ 0
  · have e0 : x2 = 0 := Int32.le_antisymm z (Int32.not_lt.mp q1)
    refine bf_87A hp (hf _) hx (Or.inr z) (fun j _ => ?_)
    by_cases y : j = r * 16 + c
    · rw [y, pk_us]
      exact e0
    · rw [pk_un y]
      exact hf j
  · have hV : 0 < x2.toInt := by
      rw [Int32.le_iff_toInt_le, show (0 : Int32).toInt = 0 from by decide] at z
      omega
    refine bf_87B hp (hf _) rfl rfl hV ⟨fun j _ y => ?_, fun j _ y => ?_⟩ hr hc
    · rw [show j = r * 16 + c by unfold bf_in at y; omega, pk_us]
    · rw [pk_un (fun q => y (by unfold bf_in; omega))]
      exact hf j
end
theorem bf_law {post : Int32 → St0 → Prop} {p0 p1 p2 p3 p4 p5 : Int32} (hp : post 1 ()) : wpL_lawOf post 692 11072 () p0 p1 p2 p3 p4 p5 := by
  refine ⟨by omega, by omega, 7, 1345, by omega, by omega, ?_⟩
  have hf : ∀ j, upd (fun _ => (0 : Int32)) 0 0 j = 0 := by
    intro j
    by_cases y : j = 0
    · rw [y, pk_us]
    · rw [pk_un y]
  refine ⟨by omega, by omega, by omega, by omega, by omega, by omega, by omega, by omega, by omega, by omega, by omega, by omega, by omega, by omega, nm_e ?_⟩
  refine br_c (fun z => bf_34N hp (Or.inl z) hf) (fun q1 => br_c (fun z => bf_34N hp (Or.inr (Or.inl z)) hf) (fun q2 => br_c (fun z => bf_34N hp (Or.inr (Or.inr (Or.inl z))) hf) (fun q3 => br_c (fun z => bf_34N hp (Or.inr (Or.inr (Or.inr z))) hf) (fun q4 => ?_))))
  obtain ⟨r, hr, er⟩ := nI_of2 (M := 15) (n := 15) (by decide) q1 (Int32.not_lt.mp q2)
  obtain ⟨c, hc, ec⟩ := nI_of2 (M := 15) (n := 15) (by decide) q3 (Int32.not_lt.mp q4)
  subst er ec
  exact bf_34G hp (by omega) (by omega) hf
theorem bf_cell {ps : Int32 → Prop} {L j : Nat} {xs : Nat → Int32} {u : St0} {p : Int32} (hL : L ≤ 6) (hj : j < 6) (e : p = nI j) (H : ∀ x, ps x) : wpL_cellAt ps L xs u p := by
  subst e
  exact pk_le L j (fun _ => H _) (fun z => ⟨pk_in j L z, H _⟩)
theorem i_vc (xs : Nat → Int32) (L : Nat) (hL : L ≤ 6) : wpL_law (fun r => r = 1) L xs :=
  bf_cell (j := 0) hL (by omega) rfl (fun _ => bf_cell (j := 1) hL (by omega) rfl (fun _ => bf_cell (j := 2) hL (by omega) rfl (fun _ => bf_cell (j := 3) hL (by omega) rfl (fun _ =>
    bf_cell (j := 4) hL (by omega) rfl (fun _ => bf_cell (j := 5) hL (by omega) rfl (fun _ => ⟨692, 11072, by omega, by omega, bf_law rfl⟩))))))
end
