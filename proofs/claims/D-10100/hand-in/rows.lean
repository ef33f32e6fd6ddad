section
/-! ===== borders of a word's beginnings ===== -/
/-- the beginning of length k has a border of length b -/
def bd_B (p : Nat → Int32) (k b : Nat) : Prop := b < k ∧ ∀ i j, i < b → j + b = k + i → p i = p j
/-- .. and it is the longest one -/
def bd_M (p : Nat → Int32) (k b : Nat) : Prop := bd_B p k b ∧ ∀ c, bd_B p k c → c ≤ b
theorem bd_trans {p : Nat → Int32} {k b c : Nat} (h : bd_B p k b) (g : bd_B p b c) : bd_B p k c := by
  have hc := g.1
  have hk := h.1
  refine ⟨by omega, fun i j hi hj => ?_⟩
  rw [g.2 i (b + i - c) hi (by omega)]
  exact h.2 (b + i - c) j (by omega) (by omega)
theorem bd_nest {p : Nat → Int32} {k b c : Nat} (h : bd_B p k b) (g : bd_B p k c) (hc : c < b) : bd_B p b c := by
  have hk := h.1
  refine ⟨hc, fun i j hi hj => ?_⟩
  rw [g.2 i (k + i - c) hi (by omega)]
  exact (h.2 j (k + i - c) (by omega) (by omega)).symm
theorem bd_ext {p : Nat → Int32} {k b : Nat} (h : bd_B p k b) (e : p b = p k) : bd_B p (k + 1) (b + 1) := by
  have hk := h.1
  refine ⟨by omega, fun i j hi hj => ?_⟩
  rcases Nat.lt_or_ge i b with z | z
  · exact h.2 i j z (by omega)
  · have e1 : i = b := by omega
    have e2 : j = k := by omega
    rw [e1, e2, e]
theorem bd_red {p : Nat → Int32} {k b : Nat} (h : bd_B p (k + 1) (b + 1)) : bd_B p k b ∧ p b = p k := by
  have hk := h.1
  exact ⟨⟨by omega, fun i j hi hj => h.2 i j (by omega) (by omega)⟩, h.2 b k (by omega) (by omega)⟩
theorem bd_zero {p : Nat → Int32} {k : Nat} (h : 0 < k) : bd_B p k 0 := ⟨h, fun i j hi => absurd hi (by omega)⟩
/-- b is a border of the beginning of length q, and no longer one goes on with the letter at q -/
def bd_C (p : Nat → Int32) (q b : Nat) : Prop := bd_B p q b ∧ ∀ c, bd_B p q c → b < c → p c ≠ p q
def bd_N (p : Nat → Int32) (q : Nat) : Prop := ∀ c, bd_B p q c → p c ≠ p q
theorem bd_start0 {p : Nat → Int32} : bd_N p 0 := fun c h => absurd h.1 (by omega)
theorem bd_start {p : Nat → Int32} {q b : Nat} (h : bd_M p q b) : bd_C p q b :=
  ⟨h.1, fun c hc hb => absurd (h.2 c hc) (by omega)⟩
theorem bd_step0 {p : Nat → Int32} {q : Nat} (h : bd_C p q 0) (e : ¬ p 0 = p q) : bd_N p q := by
  intro c hc
  rcases Nat.eq_zero_or_pos c with z | z
  · rw [z]; exact e
  · exact h.2 c hc z
theorem bd_step {p : Nat → Int32} {q b b' : Nat} (h : bd_C p q b) (e : ¬ p b = p q) (g : bd_M p b b') : bd_C p q b' := by
  refine ⟨bd_trans h.1 g.1, fun c hc hb => ?_⟩
  rcases Nat.lt_trichotomy c b with z | z | z
  · exact absurd (g.2 c (bd_nest h.1 hc z)) (by omega)
  · rw [z]; exact e
  · exact h.2 c hc z
theorem bd_fin {p : Nat → Int32} {q b : Nat} (h : bd_C p q b) (e : p b = p q) : bd_M p (q + 1) (b + 1) := by
  refine ⟨bd_ext h.1 e, fun c hc => ?_⟩
  rcases Nat.eq_zero_or_pos c with z | z
  · omega
  · obtain ⟨c', rfl⟩ : ∃ c', c = c' + 1 := ⟨c - 1, by omega⟩
    obtain ⟨g1, g2⟩ := bd_red hc
    rcases Nat.lt_or_ge b c' with y | y
    · exact absurd g2 (h.2 c' g1 y)
    · omega
theorem bd_finN {p : Nat → Int32} {q : Nat} (h : bd_N p q) : bd_M p (q + 1) 0 := by
  refine ⟨bd_zero (by omega), fun c hc => ?_⟩
  rcases Nat.eq_zero_or_pos c with z | z
  · omega
  · obtain ⟨c', rfl⟩ : ∃ c', c = c' + 1 := ⟨c - 1, by omega⟩
    obtain ⟨g1, g2⟩ := bd_red hc
    exact absurd g2 (h c' g1)
theorem bd_uniq {p : Nat → Int32} {k b c : Nat} (h : bd_M p k b) (g : bd_M p k c) : b = c :=
  Nat.le_antisymm (g.2 b h.1) (h.2 c g.1)
/-! ===== beginnings of p that end at place i of t ===== -/
def ov_S (p t : Nat → Int32) (i k : Nat) : Prop := k ≤ i ∧ ∀ x y, x < k → y + k = i + x → p x = t y
theorem ov_bd {p t : Nat → Int32} {i k c : Nat} (h : ov_S p t i k) (g : bd_B p k c) : ov_S p t i c := by
  have hk := h.1
  have hc := g.1
  refine ⟨by omega, fun x y hx hy => ?_⟩
  rw [g.2 x (k + x - c) hx (by omega)]
  exact h.2 (k + x - c) y (by omega) (by omega)
theorem ov_nest {p t : Nat → Int32} {i k c : Nat} (h : ov_S p t i k) (g : ov_S p t i c) (hc : c < k) : bd_B p k c := by
  have hk := h.1
  refine ⟨hc, fun x y hx hy => ?_⟩
  rw [g.2 x (i + x - c) hx (by omega)]
  exact (h.2 y (i + x - c) (by omega) (by omega)).symm
theorem ov_ext {p t : Nat → Int32} {i k : Nat} (h : ov_S p t i k) (e : p k = t i) : ov_S p t (i + 1) (k + 1) := by
  have hk := h.1
  refine ⟨by omega, fun x y hx hy => ?_⟩
  rcases Nat.lt_or_ge x k with z | z
  · exact h.2 x y z (by omega)
  · have e1 : x = k := by omega
    have e2 : y = i := by omega
    rw [e1, e2, e]
theorem ov_red {p t : Nat → Int32} {i k : Nat} (h : ov_S p t (i + 1) (k + 1)) : ov_S p t i k ∧ p k = t i := by
  have hk := h.1
  exact ⟨⟨by omega, fun x y hx hy => h.2 x y (by omega) (by omega)⟩, h.2 k i (by omega) (by omega)⟩
def ov_C (p t : Nat → Int32) (M i k : Nat) : Prop := k < M ∧ ov_S p t i k ∧ ∀ c, c < M → ov_S p t i c → k < c → p c ≠ t i
def ov_N (p t : Nat → Int32) (M i : Nat) : Prop := ∀ c, c < M → ov_S p t i c → p c ≠ t i
def ov_M (p t : Nat → Int32) (M i k : Nat) : Prop := k ≤ M ∧ ov_S p t i k ∧ ∀ c, c ≤ M → ov_S p t i c → c ≤ k
theorem ov_begin {p t : Nat → Int32} {M : Nat} : ov_M p t M 0 0 :=
  ⟨by omega, ⟨by omega, fun x y hx => absurd hx (by omega)⟩, fun c _ hc => hc.1⟩
theorem ov_start {p t : Nat → Int32} {M i k : Nat} (h : ov_M p t M i k) (hk : k < M) : ov_C p t M i k :=
  ⟨hk, h.2.1, fun c hc g hb => absurd (h.2.2 c (by omega) g) (by omega)⟩
theorem ov_startM {p t : Nat → Int32} {M i b : Nat} (h : ov_M p t M i M) (hb : bd_M p M b) : ov_C p t M i b :=
  ⟨hb.1.1, ov_bd h.2.1 hb.1, fun c hc g hz => absurd (hb.2 c (ov_nest h.2.1 g hc)) (by omega)⟩
theorem ov_step0 {p t : Nat → Int32} {M i : Nat} (h : ov_C p t M i 0) (e : ¬ p 0 = t i) : ov_N p t M i := by
  intro c hc g
  rcases Nat.eq_zero_or_pos c with z | z
  · rw [z]; exact e
  · exact h.2.2 c hc g z
theorem ov_step {p t : Nat → Int32} {M i k b : Nat} (h : ov_C p t M i k) (e : ¬ p k = t i) (g : bd_M p k b) : ov_C p t M i b := by
  have hk := h.1
  have hb := g.1.1
  refine ⟨by omega, ov_bd h.2.1 g.1, fun c hc gc hz => ?_⟩
  rcases Nat.lt_trichotomy c k with z | z | z
  · exact absurd (g.2 c (ov_nest h.2.1 gc z)) (by omega)
  · rw [z]; exact e
  · exact h.2.2 c hc gc z
theorem ov_fin {p t : Nat → Int32} {M i k : Nat} (h : ov_C p t M i k) (e : p k = t i) : ov_M p t M (i + 1) (k + 1) := by
  have hk := h.1
  refine ⟨by omega, ov_ext h.2.1 e, fun c hc g => ?_⟩
  rcases Nat.eq_zero_or_pos c with z | z
  · omega
  · obtain ⟨c', rfl⟩ : ∃ c', c = c' + 1 := ⟨c - 1, by omega⟩
    obtain ⟨g1, g2⟩ := ov_red g
    rcases Nat.lt_or_ge k c' with y | y
    · exact absurd g2 (h.2.2 c' (by omega) g1 y)
    · omega
theorem ov_finN {p t : Nat → Int32} {M i : Nat} (h : ov_N p t M i) : ov_M p t M (i + 1) 0 := by
  refine ⟨by omega, ⟨by omega, fun x y hx => absurd hx (by omega)⟩, fun c hc g => ?_⟩
  rcases Nat.eq_zero_or_pos c with z | z
  · omega
  · obtain ⟨c', rfl⟩ : ∃ c', c = c' + 1 := ⟨c - 1, by omega⟩
    obtain ⟨g1, g2⟩ := ov_red g
    exact absurd g2 (h c' (by omega) g1)
theorem ov_full {p t : Nat → Int32} {M N k : Nat} (h : ov_M p t M N k) (g : ov_S p t N M) : k = M :=
  Nat.le_antisymm h.1 (h.2.2 M (Nat.le_refl M) g)
/-! ===== occurrences ===== -/
def oc_O (p t : Nat → Int32) (M j : Nat) : Prop := ∀ i, i < M → p i = t (j + i)
theorem oc_gap {p t : Nat → Int32} {M a b c : Nat} (h1 : oc_O p t M a) (h2 : oc_O p t M b) (hab : a < b) (hc : bd_M p M c) : M - c ≤ b - a := by
  rcases Nat.lt_or_ge (b - a) M with z | z
  · have hB : bd_B p M (M - (b - a)) := by
      refine ⟨by omega, fun i j hi hj => ?_⟩
      rw [h2 i (by omega), h1 j (by omega)]
      exact congrArg t (by omega)
    have := hc.2 _ hB
    omega
  · omega
/-! ===== the greatest end of a word: v the letters' ranks, m the length ===== -/
/-- the end at s is smaller than the end at b; they differ ahead of the end of the latter -/
def fe_L (v : Nat → Int) (m s b : Nat) : Prop := ∃ t, b + t < m ∧ v (s + t) < v (b + t) ∧ ∀ u, u < t → v (s + u) = v (b + u)
theorem fe_tr {v : Nat → Int} {m s b c : Nat} (h : fe_L v m s b) (g : fe_L v m b c) : fe_L v m s c := by
  obtain ⟨t, h1, h2, h3⟩ := h
  obtain ⟨t', g1, g2, g3⟩ := g
  rcases Nat.lt_trichotomy t t' with z | z | z
  · exact ⟨t, by omega, by rw [← g3 t z]; exact h2, fun u hu => by rw [h3 u hu]; exact g3 u (by omega)⟩
  · subst z
    exact ⟨t, by omega, Int.lt_trans h2 g2, fun u hu => by rw [h3 u hu]; exact g3 u hu⟩
  · exact ⟨t', by omega, by rw [h3 t' z]; exact g2, fun u hu => by rw [h3 u (by omega)]; exact g3 u hu⟩
def fe_P (v : Nat → Int) (b p e : Nat) : Prop := ∀ i j, b ≤ i → j = i + p → j < e → v i = v j
theorem fe_per {v : Nat → Int} {b p e : Nat} (h : fe_P v b p e) : ∀ c x, b ≤ x → x + c * p < e → v (x + c * p) = v x := by
  intro c
  induction c with
  | zero => intro x _ _; rw [Nat.zero_mul, Nat.add_zero]
  | succ c ih =>
    intro x hx hl
    rw [Nat.add_mul, Nat.one_mul] at hl ⊢
    rw [← ih x hx (by omega)]
    exact (h (x + c * p) (x + (c * p + p)) (by omega) (by omega) hl).symm
theorem fe_at {v : Nat → Int} {b p e : Nat} (h : fe_P v b p e) {c x y : Nat} (hx : b ≤ x) (hy : y = x + c * p) (hl : y < e) : v y = v x := by
  subst hy
  exact fe_per h c x hx hl
theorem fe_mul {a c p : Nat} (h : a < c) : a * p + p ≤ c * p := by
  have := Nat.mul_le_mul_right p (show a + 1 ≤ c from h)
  rw [Nat.add_mul, Nat.one_mul] at this
  exact this
theorem fe_uq {a b c d p : Nat} (h : a * p + b = c * p + d) (hb : b < p) (hd : d < p) : b = d := by
  rcases Nat.lt_trichotomy a c with z | z | z
  · have := fe_mul (p := p) z
    omega
  · subst z
    omega
  · have := fe_mul (p := p) z
    omega
theorem fe_dm (r p : Nat) (hp : 0 < p) : ∃ a b, r = a * p + b ∧ b < p :=
  ⟨r / p, r % p, by rw [Nat.mul_comm]; exact (Nat.div_add_mod r p).symm, Nat.mod_lt r hp⟩
/-- inside a word of length p that begins at b every end is smaller than the word -/
def fe_W (v : Nat → Int) (b p : Nat) : Prop := ∀ r, 0 < r → r < p → ∃ t, r + t < p ∧ v (b + r + t) < v (b + t) ∧ ∀ u, u < t → v (b + r + u) = v (b + u)
/-- the invariant of findEnd's loop -/
def fe_I (v : Nat → Int) (m b o q p : Nat) : Prop :=
  0 < p ∧ q < p ∧ (∃ c, o = b + c * p + p) ∧ o + q ≤ m ∧ fe_P v b p (o + q) ∧ fe_W v b p ∧ ∀ s, s < b → fe_L v m s b
theorem fe_begin {v : Nat → Int} {m : Nat} (hm : 0 < m) : fe_I v m 0 1 0 1 :=
  ⟨by omega, by omega, ⟨0, by omega⟩, by omega, fun i j _ hj hl => absurd hl (by omega), fun r h1 h2 => absurd h1 (by omega), fun s hs => absurd hs (by omega)⟩
theorem fe_eqP {v : Nat → Int} {m b o q p : Nat} (h : fe_I v m b o q p) (e : v (o + q) = v (b + q)) : fe_P v b p (o + q + 1) := by
  obtain ⟨h1, h2, ⟨c, hc⟩, h4, h5, h6, h7⟩ := h
  intro i j hi hj hl
  rcases Nat.lt_or_ge j (o + q) with z | z
  · exact h5 i j hi hj z
  · have ej : j = o + q := by omega
    rw [ej, e]
    exact fe_at h5 (c := c) (x := b + q) (by omega) (by omega) (by omega)
theorem fe_eq1 {v : Nat → Int} {m b o q p : Nat} (h : fe_I v m b o q p) (hm : o + q < m) (e : v (o + q) = v (b + q)) (hq : q + 1 ≠ p) : fe_I v m b o (q + 1) p := by
  have hP := fe_eqP h e
  obtain ⟨h1, h2, h3, h4, h5, h6, h7⟩ := h
  exact ⟨h1, by omega, h3, by omega, hP, h6, h7⟩
theorem fe_eq2 {v : Nat → Int} {m b o q p : Nat} (h : fe_I v m b o q p) (hm : o + q < m) (e : v (o + q) = v (b + q)) (hq : q + 1 = p) : fe_I v m b (o + p) 0 p := by
  have hP := fe_eqP h e
  obtain ⟨h1, h2, ⟨c, hc⟩, h4, h5, h6, h7⟩ := h
  refine ⟨h1, h1, ⟨c + 1, ?_⟩, by omega, ?_, h6, h7⟩
  · rw [Nat.add_mul, Nat.one_mul]; omega
  · have e2 : o + p + 0 = o + q + 1 := by omega
    rw [e2]; exact hP
theorem fe_sm {v : Nat → Int} {m b o q p : Nat} (h : fe_I v m b o q p) (hm : o + q < m) (e : v (o + q) < v (b + q)) : fe_I v m b (o + q + 1) 0 (o + q + 1 - b) := by
  obtain ⟨h1, h2, ⟨c, hc⟩, h4, h5, h6, h7⟩ := h
  refine ⟨by omega, by omega, ⟨0, by omega⟩, by omega, fun i j hi hj hl => absurd hl (by omega), ?_, h7⟩
  intro r hr hl
  obtain ⟨a, r0, er, hr0⟩ := fe_dm r p h1
  rcases Nat.eq_zero_or_pos r0 with z | z
  · subst z
    have hac : a < c + 1 ∨ c + 1 ≤ a := Nat.lt_or_ge a (c + 1)
    have ha : a ≤ c + 1 := by
      rcases Nat.lt_or_ge (c + 1) a with y | y
      · have := fe_mul (p := p) y
        rw [Nat.add_mul, Nat.one_mul] at this
        omega
      · exact y
    obtain ⟨d, hd⟩ : ∃ d, c + 1 = a + d := ⟨c + 1 - a, by omega⟩
    have hd2 : c * p + p = a * p + d * p := by
      rw [← Nat.add_mul, ← hd, Nat.add_mul, Nat.one_mul]
    refine ⟨d * p + q, by omega, ?_, fun u hu => ?_⟩
    · have e1 : b + r + (d * p + q) = o + q := by omega
      have e2 : v (b + (d * p + q)) = v (b + q) := fe_at h5 (c := d) (x := b + q) (by omega) (by omega) (by omega)
      rw [e1, e2]; exact e
    · exact fe_at h5 (c := a) (x := b + u) (by omega) (by omega) (by omega)
  · obtain ⟨t, t1, t2, t3⟩ := h6 r0 z hr0
    have key : ∀ u, r + u < c * p + p + q → v (b + r + u) = v (b + r0 + u) := fun u hu => fe_at h5 (c := a) (x := b + r0 + u) (by omega) (by omega) (by omega)
    rcases Nat.lt_or_ge (r + t) (c * p + p + q) with y | y
    · refine ⟨t, by omega, ?_, fun u hu => ?_⟩
      · rw [key t y]; exact t2
      · rw [key u (by omega)]; exact t3 u hu
    · obtain ⟨x, hx⟩ : ∃ x, c * p + p + q = r + x := ⟨c * p + p + q - r, by omega⟩
      have hxt : x ≤ t := by omega
      have hq : q = r0 + x := by
        refine fe_uq (a := c + 1) (c := a) (p := p) ?_ h2 (by omega)
        rw [Nat.add_mul, Nat.one_mul]; omega
      refine ⟨x, by omega, ?_, fun u hu => ?_⟩
      · have e1 : b + r + x = o + q := by omega
        have e2 : b + q = b + r0 + x := by omega
        have e3 : v (b + r0 + x) ≤ v (b + x) := by
          rcases Nat.lt_or_ge x t with w | w
          · exact Int.le_of_eq (t3 x w)
          · have : x = t := by omega
            rw [this]; exact Int.le_of_lt t2
        rw [e2] at e
        rw [e1]
        exact Int.lt_of_lt_of_le e e3
      · rw [key u (by omega)]; exact t3 u (by omega)
theorem fe_gr {v : Nat → Int} {m b o q p : Nat} (h : fe_I v m b o q p) (hm : o + q < m) (e : v (b + q) < v (o + q)) : fe_I v m o (o + 1) 0 1 := by
  obtain ⟨h1, h2, ⟨c, hc⟩, h4, h5, h6, h7⟩ := h
  refine ⟨by omega, by omega, ⟨0, by omega⟩, by omega, fun i j hi hj hl => absurd hl (by omega), fun r hr hl => absurd hr (by omega), ?_⟩
  have eo : o = b + (c + 1) * p := by rw [Nat.add_mul, Nat.one_mul]; omega
  have base : fe_L v m b o := ⟨q, hm, e, fun u hu => (fe_at h5 (c := c + 1) (x := b + u) (by omega) (by omega) (by omega)).symm⟩
  intro s hs
  rcases Nat.lt_or_ge s b with z | z
  · exact fe_tr (h7 s z) base
  · obtain ⟨r, rfl⟩ : ∃ r, s = b + r := ⟨s - b, by omega⟩
    obtain ⟨a, r0, er, hr0⟩ := fe_dm r p h1
    have hac : a < c + 1 := by
      rcases Nat.lt_or_ge a (c + 1) with y | y
      · exact y
      · have := Nat.mul_le_mul_right p y
        omega
    have hm1 := fe_mul (p := p) hac
    rcases Nat.eq_zero_or_pos r0 with y | y
    · have key : ∀ u, u ≤ q → v (b + r + u) = v (b + u) := fun u hu => fe_at h5 (c := a) (x := b + u) (by omega) (by omega) (by omega)
      refine ⟨q, hm, by rw [key q (by omega)]; exact e, fun u hu => ?_⟩
      rw [key u (by omega)]
      exact (fe_at h5 (c := c + 1) (x := b + u) (by omega) (by omega) (by omega)).symm
    · obtain ⟨t, t1, t2, t3⟩ := h6 r0 y hr0
      have key : ∀ u, u ≤ t → v (b + r + u) = v (b + r0 + u) := fun u hu => fe_at h5 (c := a) (x := b + r0 + u) (by omega) (by omega) (by omega)
      refine fe_tr ⟨t, by omega, ?_, fun u hu => ?_⟩ base
      · rw [key t (by omega)]; exact t2
      · rw [key u (by omega)]; exact t3 u hu
end
section
/-! ===== fillBorders, period, border, overlap, feedPattern ===== -/
section
variable {nn cu tu fc ft se co : Int32} {a1 a2 a3 a4 a5 a6 : Nat → Int32}
/-- the border table up to K -/
def bd_T (p b : Nat → Int32) (K : Nat) : Prop := b 0 = -1 ∧ ∀ k, 1 ≤ k → k ≤ K → ∃ x, b k = nI x ∧ bd_M p k x
theorem bo_68 {post : St1 → Prop} {J : Int32 → (Nat → Int32) → (Nat → Int32) → (Nat → Int32) → (Nat → Int32) → (Nat → Int32) → (Nat → Int32) → Prop} {M q : Nat} {x : Int32} (hq : q < 16) (r : Nat) (hr : x + 1 = nI r)
    (H : J (nI (q + 1 + 1)) a1 a2 a3 a4 (upd a5 (q + 1) (nI r)) a6) : wX_fillBorders_68 post J (nI (q + 1)) x (nI M) nn cu tu fc ft se co a1 a2 a3 a4 a5 a6 :=
  ⟨pk_in (q + 1) 17 (by omega), nm_r (by rw [nI_clamp (by omega), hr]) (nm_r (nI_1 (q + 1)) H)⟩
theorem bo_28 {post : St1 → Prop} {J : Int32 → (Nat → Int32) → (Nat → Int32) → (Nat → Int32) → (Nat → Int32) → (Nat → Int32) → (Nat → Int32) → Prop} {M q : Nat} {s : Int32} (hq : q < 16) (hT : bd_T a1 a5 q)
    (H : ∀ b, bd_M a1 (q + 1) b → J (nI (q + 1 + 1)) a1 a2 a3 a4 (upd a5 (q + 1) (nI b)) a6)
    (hs : (s = -1 ∧ bd_N a1 q) ∨ (∃ b, s = nI b ∧ bd_C a1 q b ∧ b + 0 ≤ 15)) :
    ∃ n, wX_fillBorders_28 post J (nI (q + 1)) (nI M) nn cu tu fc ft se co a1 a2 a3 a4 a5 a6 n s 0 := by
  refine pk_loop (fun n i s => wX_fillBorders_28 post J (nI (q + 1)) (nI M) nn cu tu fc ft se co a1 a2 a3 a4 a5 a6 n s (nI i)) (fun i s => (s = -1 ∧ bd_N a1 q) ∨ (∃ b, s = nI b ∧ bd_C a1 q b ∧ b + i ≤ 15)) 16 0 s (by omega) hs ?_ ?_
  · intro n s hI
    refine pk_le 16 16 (fun _ => ?_) (fun z => absurd z (by omega))
    rcases hI with ⟨e, hN⟩ | ⟨b, _, _, hb⟩
    · exact bo_68 hq 0 (by rw [e]; rfl) (H 0 (bd_finN hN))
    · exact absurd hb (by omega)
  · intro n i s hi hI hw
    refine pk_le 16 i (fun z => absurd z (by omega)) (fun _ => ?_)
    rcases hI with ⟨e, hN⟩ | ⟨b, e, hC, hb⟩
    · exact br_t (by rw [e]; decide) (bo_68 hq 0 (by rw [e]; rfl) (H 0 (bd_finN hN)))
    · subst e
      refine br_f (nI_pos (by omega)) ⟨pk_in b 16 (by omega), pk_in q 16 hq (nI_pred q), ?_⟩
      rw [nI_clamp (show b < 2 ^ 31 by omega), nI_pred, nI_clamp (show q < 2 ^ 31 by omega)]
      refine br_c (fun e => bo_68 hq (b + 1) (nI_1 b) (H (b + 1) (bd_fin hC e))) (fun e => ⟨pk_in b 17 (by omega), ?_⟩)
      rcases Nat.eq_zero_or_pos b with z | z
      · subst z
        exact nm_r hT.1 (nm_r (nI_1 i) (hw _ (Or.inl ⟨rfl, bd_step0 hC e⟩)))
      · have hbq := hC.1.1
        obtain ⟨b', e', hM⟩ := hT.2 b z (by omega)
        have hbb := hM.1.1
        exact nm_r e' (nm_r (nI_1 i) (hw _ (Or.inr ⟨b', rfl, bd_step hC e hM, by omega⟩)))
theorem bo_fill {post : St1 → Prop} {M : Nat} (hM : M ≤ 16) (H : ∀ a5', bd_T a1 a5' M → post (nI M, nn, cu, tu, fc, ft, se, co, a1, a2, a3, a4, a5', a6)) :
    wpX_fillBorders post (nI M, nn, cu, tu, fc, ft, se, co, a1, a2, a3, a4, a5, a6) := by
  refine nm_e ?_
  refine pk_loop (fun n i s => wX_fillBorders_9 post (nI M) nn cu tu fc ft se co n (nI i) a1 a2 a3 a4 s a6) (fun i s => ∃ q, i = q + 1 ∧ bd_T a1 s q) (M + 1) 1 (upd a5 0 (-1)) (by omega) ?_ ?_ ?_
  · exact ⟨0, rfl, pk_us, fun k h1 h2 => absurd h1 (by omega)⟩
  · rintro n s ⟨q, hq, hT⟩
    have e : q = M := by omega
    subst e
    exact pk_lt q (q + 1) (fun _ => H s hT) (fun z => absurd z (by omega))
  · rintro n i s hi ⟨q, rfl, hT⟩ hw
    refine pk_lt M (q + 1) (fun z => absurd z (by omega)) (fun _ => ⟨pk_in q 17 (by omega) (nI_pred q), ?_⟩)
    refine nm_e ?_
    refine bo_28 (by omega) hT (fun b hb => hw _ ⟨q + 1, rfl, ?_⟩) ?_
    · refine ⟨by rw [pk_un (by omega)]; exact hT.1, fun k h1 h2 => ?_⟩
      rcases Nat.lt_or_ge k (q + 1) with z | z
      · rw [pk_un (by omega)]; exact hT.2 k h1 (by omega)
      · have e : k = q + 1 := by omega
        subst e
        exact ⟨b, pk_us, hb⟩
    · rw [nI_pred, nI_clamp (by omega)]
      rcases Nat.eq_zero_or_pos q with z | z
      · subst z
        exact Or.inl ⟨hT.1, bd_start0⟩
      · obtain ⟨b, e, hb⟩ := hT.2 q z (Nat.le_refl q)
        have hbb := hb.1.1
        exact Or.inr ⟨b, e, bd_start hb, by omega⟩
theorem bo_period {post : Int32 → St1 → Prop} {M : Nat} (hM : M ≤ 16) (H0 : M = 0 → post (-4) (nI M, nn, cu, tu, fc, ft, se, co, a1, a2, a3, a4, a5, a6))
    (H : 0 < M → ∀ a5' b, bd_M a1 M b → post (nI (M - b)) (nI M, nn, cu, tu, fc, ft, se, co, a1, a2, a3, a4, a5', a6)) :
    wpX_period post (nI M, nn, cu, tu, fc, ft, se, co, a1, a2, a3, a4, a5, a6) := by
  refine pk_eq M 0 (fun z => H0 z) (fun z => bo_fill hM (fun a5' hT => ⟨pk_in M 17 (by omega), ?_⟩))
  obtain ⟨b, e, hb⟩ := hT.2 M (by omega) (Nat.le_refl M)
  have hbb := hb.1.1
  rw [nI_clamp (by omega), e, pk_sub (by omega)]
  exact H (by omega) a5' b hb
theorem bo_border {post : Int32 → St1 → Prop} {M : Nat} (hM : M ≤ 16) (h0 : 0 < M) (H : ∀ a5' b, bd_M a1 M b → post (nI b) (nI M, nn, cu, tu, fc, ft, se, co, a1, a2, a3, a4, a5', a6)) :
    wpX_border post (nI M, nn, cu, tu, fc, ft, se, co, a1, a2, a3, a4, a5, a6) (nI M) := by
  refine pk_lt M 1 (fun z => absurd z (by omega)) (fun _ => pk_le M M (fun _ => bo_fill hM (fun a5' hT => ⟨pk_in M 17 (by omega), ?_⟩)) (fun z => absurd z (by omega)))
  obtain ⟨b, e, hb⟩ := hT.2 M (by omega) (Nat.le_refl M)
  rw [nI_clamp (by omega), e]
  exact H a5' b hb
theorem ol_47 {post : Int32 → St1 → Prop} {J : Int32 → Int32 → Prop} {M i : Nat} {s : Int32} (hM : M ≤ 16) (hi : i < 48) (hT : bd_T a1 a5 M)
    (H : ∀ k, ov_M a1 a2 M (i + 1) k → J (nI k) (nI (i + 1))) (hs : (s = -1 ∧ ov_N a1 a2 M i) ∨ (∃ k, s = nI k ∧ ov_C a1 a2 M i k ∧ k + 0 ≤ 15)) :
    ∃ n, wX_overlap_47 post J (nI i) (nI M) nn cu tu fc ft se co a1 a2 a3 a4 a5 a6 n s 0 := by
  refine pk_loop (fun n c s => wX_overlap_47 post J (nI i) (nI M) nn cu tu fc ft se co a1 a2 a3 a4 a5 a6 n s (nI c)) (fun c s => (s = -1 ∧ ov_N a1 a2 M i) ∨ (∃ k, s = nI k ∧ ov_C a1 a2 M i k ∧ k + c ≤ 15)) 17 0 s (by omega) hs ?_ ?_
  · intro n s hI
    refine pk_lt 16 17 (fun _ => ?_) (fun z => absurd z (by omega))
    rcases hI with ⟨e, hN⟩ | ⟨k, _, _, hk⟩
    · exact nm_r (e' := nI 0) (by rw [e]; rfl) (nm_r (nI_1 i) (H 0 (ov_finN hN)))
    · exact absurd hk (by omega)
  · intro n c s hc hI hw
    refine pk_lt 16 c (fun z => absurd z (by omega)) (fun _ => ?_)
    rcases hI with ⟨e, hN⟩ | ⟨k, e, hC, hk⟩
    · exact br_t (by rw [e]; decide) (nm_r (e' := nI 0) (by rw [e]; rfl) (nm_r (nI_1 i) (H 0 (ov_finN hN))))
    · subst e
      have hkM := hC.1
      refine br_f (nI_pos (by omega)) (pk_eq k M (fun z => absurd z (by omega)) (fun _ => ⟨pk_in k 16 (by omega), pk_in i 48 hi, ?_⟩))
      rw [nI_clamp (show k < 2 ^ 31 by omega), nI_clamp (show i < 2 ^ 31 by omega)]
      refine br_c (fun e => nm_r (nI_1 k) (nm_r (nI_1 i) (H (k + 1) (ov_fin hC e)))) (fun e => ⟨pk_in k 17 (by omega), ?_⟩)
      rcases Nat.eq_zero_or_pos k with z | z
      · subst z
        exact nm_r hT.1 (nm_r (nI_1 c) (hw _ (Or.inl ⟨rfl, ov_step0 hC e⟩)))
      · obtain ⟨b, e', hB⟩ := hT.2 k z (by omega)
        have hbb := hB.1.1
        exact nm_r e' (nm_r (nI_1 c) (hw _ (Or.inr ⟨b, rfl, ov_step hC e hB, by omega⟩)))
theorem ol_8 {post : Int32 → St1 → Prop} {M N : Nat} (hM : M ≤ 16) (h0 : 0 < M) (hN : N ≤ 48) (hT : bd_T a1 a5 M)
    (H : ∀ k, ov_M a1 a2 M N k → post (nI k) (nI M, nI N, cu, tu, fc, ft, se, co, a1, a2, a3, a4, a5, a6)) :
    ∃ n, wX_overlap_8 post (nI M) (nI N) cu tu fc ft se co a1 a2 a3 a4 a5 a6 n 0 0 := by
  refine pk_loop (fun n i s => wX_overlap_8 post (nI M) (nI N) cu tu fc ft se co a1 a2 a3 a4 a5 a6 n s (nI i)) (fun i s => ∃ k, s = nI k ∧ ov_M a1 a2 M i k) N 0 (0 : Int32) (by omega) ⟨0, rfl, ov_begin⟩ ?_ ?_
  · rintro n s ⟨k, rfl, hk⟩
    exact pk_le N N (fun _ => br_f (nI_ne0 h0 (by omega)) (H k hk)) (fun z => absurd z (by omega))
  · rintro n i s hi ⟨k, rfl, hk⟩ hw
    have hkM := hk.1
    refine pk_le N i (fun z => absurd z (by omega)) (fun _ => pk_eq k M (fun z => br_f (nI_ne0 h0 (by omega)) ⟨pk_in M 17 (by omega), ?_⟩) (fun z => ?_))
    · subst z
      obtain ⟨b, e, hb⟩ := hT.2 k (by omega) (Nat.le_refl k)
      have hbb := hb.1.1
      refine nm_r (e' := nI b) (by rw [nI_clamp (by omega), e]) ?_
      exact ol_47 hM (by omega) hT (fun k' hk' => hw _ ⟨k', rfl, hk'⟩) (Or.inr ⟨b, rfl, ov_startM hk hb, by omega⟩)
    · exact ol_47 hM (by omega) hT (fun k' hk' => hw _ ⟨k', rfl, hk'⟩) (Or.inr ⟨k, rfl, ov_start hk (by omega), by omega⟩)
theorem ol_overlap {post : Int32 → St1 → Prop} {M N : Nat} (hM : M ≤ 16) (h0 : 0 < M) (hN : N ≤ 48) (hE : ov_S a1 a2 N M)
    (H : ∀ a5', post (nI M) (nI M, nI N, cu, tu, fc, ft, se, co, a1, a2, a3, a4, a5', a6)) :
    wpX_overlap post (nI M, nI N, cu, tu, fc, ft, se, co, a1, a2, a3, a4, a5, a6) := by
  unfold wpX_overlap
  refine bo_fill hM (fun a5' hT => ?_)
  refine ol_8 hM h0 hN hT (fun k hk => ?_)
  rw [ov_full hk hE]
  exact H a5'
theorem fp_feed {post : Int32 → St1 → Prop} {M N : Nat} (hM : M ≤ 16) (hN : N ≤ 48) (H0 : post (-2) (nI M, nI N, cu, tu, fc, ft, se, co, a1, a2, a3, a4, a5, a6))
    (H : ∀ a2', N + M ≤ 48 → ov_S a1 a2' (N + M) M → post (nI (N + M)) (nI M, nI (N + M), cu, tu, fc, ft, 0, co, a1, a2', a3, a4, a5, a6)) :
    wpX_feedPattern post (nI M, nI N, cu, tu, fc, ft, se, co, a1, a2, a3, a4, a5, a6) := by
  refine pk_le (N + M) 48 (fun hNM => ?_) (fun _ => H0) (nI_add N M)
  refine pk_loop (fun n i s => wX_feedPattern_19 post (nI M) (nI N) cu tu fc ft se co n (nI i) a1 s a3 a4 a5 a6) (fun i s => ∀ x, x < i → s (N + x) = a1 x) M 0 a2 (by omega) (fun x hx => absurd hx (by omega)) ?_ ?_
  · intro n s hI
    refine pk_le M M (fun _ => nm_r (nI_add N M) (H s hNM ⟨by omega, fun x y hx hy => ?_⟩)) (fun z => absurd z (by omega))
    have e : y = N + x := by omega
    rw [e, hI x hx]
  · intro n i s hi hI hw
    refine pk_le M i (fun z => absurd z (by omega)) (fun _ => ⟨pk_in i 16 (by omega), pk_in (N + i) 48 (by omega) (nI_add N i), ?_⟩)
    refine nm_r (e' := upd s (N + i) (a1 i)) (by rw [nI_add, nI_clamp (by omega), nI_clamp (by omega)]) (nm_r (nI_1 i) (hw _ (fun x hx => ?_)))
    rcases Nat.lt_or_ge x i with z | z
    · rw [pk_un (by omega)]; exact hI x z
    · have e : x = i := by omega
      subst e
      exact pk_us
end
end
section
/-! ===== rotateInto, findEnd, cutWord ===== -/
section
variable {nn cu tu fc ft se co : Int32} {a1 a2 a3 a4 a5 a6 : Nat → Int32}
theorem ro_into {post : St1 → Prop} {M : Nat} (hM : M ≤ 16) (H : ∀ a3', (∀ i, i < M → a3' i = a1 i) → post (nI M, nn, cu, tu, fc, ft, se, co, a1, a2, a3', a4, a5, a6)) :
    wpX_rotateInto post (nI M, nn, cu, tu, fc, ft, se, co, a1, a2, a3, a4, a5, a6) 0 := by
  refine pk_loop (fun n i s => wX_rotateInto_2 post 0 (nI M) nn cu tu fc ft se co n (nI i) a1 a2 s a4 a5 a6) (fun i s => ∀ x, x < i → s x = a1 x) M 0 a3 (by omega) (fun x hx => absurd hx (by omega)) ?_ ?_
  · intro n s hI
    exact pk_le M M (fun _ => H s hI) (fun z => absurd z (by omega))
  · intro n i s hi hI hw
    refine pk_le M i (fun z => absurd z (by omega)) (fun _ => nm_r (Int32.zero_add (nI i)) (pk_le M i (fun z => absurd z (by omega)) (fun _ => ⟨pk_in i 16 (by omega), pk_in i 16 (by omega), ?_⟩)))
    refine nm_r (e' := upd s i (a1 i)) (by rw [nI_clamp (by omega)]) (nm_r (nI_1 i) (hw _ (fun x hx => ?_)))
    rcases Nat.lt_or_ge x i with z | z
    · rw [pk_un (by omega)]; exact hI x z
    · have e : x = i := by omega
      subst e
      exact pk_us
/-- a letter's rank in the order o -/
def fe_key (o x : Int32) : Int := if o = 0 then x.toInt else -x.toInt
theorem fe_inj {o x y : Int32} (h : fe_key o x = fe_key o y) : x = y := by
  unfold fe_key at h
  split at h
  · exact Int32.toInt_inj.mp h
  · exact Int32.toInt_inj.mp (by omega)
theorem fe_small {post : Int32 → Prop} {mm a b o : Int32} (hne : ¬ a = b) (h1 : fe_key o a < fe_key o b → post 1) (h0 : fe_key o b < fe_key o a → post 0) :
    wpX_smaller post (mm, nn, cu, tu, fc, ft, se, co, a1, a2, a3, a4, a5, a6) a b o := by
  have hne' : ¬ a.toInt = b.toInt := fun e => hne (Int32.toInt_inj.mp e)
  unfold fe_key at h1 h0
  refine br_c (fun ho => ?_) (fun ho => ?_)
  · rw [if_pos ho, if_pos ho] at h1 h0
    refine br_c (fun h => h0 ?_) (fun h => h1 ?_)
    · rw [Int32.le_iff_toInt_le] at h
      omega
    · rw [Int32.le_iff_toInt_le] at h
      omega
  · rw [if_neg ho, if_neg ho] at h1 h0
    refine br_c (fun h => h0 ?_) (fun h => h1 ?_)
    · rw [Int32.le_iff_toInt_le] at h
      omega
    · rw [Int32.le_iff_toInt_le] at h
      omega
/-- what findEnd says of its cut b and its period p -/
def fe_R (w : Nat → Int32) (M b p : Nat) : Prop := 0 < p ∧ b + p ≤ M ∧ (∀ i j, b ≤ i → j = i + p → j < M → w i = w j) ∧ ∀ s, s < b → ∃ t, b + t < M ∧ ¬ w (s + t) = w (b + t)
theorem fe_out {w : Nat → Int32} {o : Int32} {M b k q p : Nat} (h : fe_I (fun i => fe_key o (w i)) M b k q p) (e : k + q = M) : fe_R w M b p := by
  obtain ⟨h1, h2, ⟨c, hc⟩, h4, h5, h6, h7⟩ := h
  refine ⟨h1, by omega, fun i j hi hj hl => fe_inj (h5 i j hi hj (by omega)), fun s hs => ?_⟩
  obtain ⟨t, t1, t2, _⟩ := h7 s hs
  refine ⟨t, t1, fun z => ?_⟩
  have t2' : fe_key o (w (s + t)) < fe_key o (w (b + t)) := t2
  rw [z] at t2'
  omega
theorem fe_find {post : St1 → Prop} {o : Int32} {M : Nat} (hM : M ≤ 16) (h0 : 0 < M) (H : ∀ b p, fe_R a3 M b p → post (nI M, nn, cu, tu, nI b, nI p, se, co, a1, a2, a3, a4, a5, a6)) :
    wpX_findEnd post (nI M, nn, cu, tu, fc, ft, se, co, a1, a2, a3, a4, a5, a6) o := by
  refine pk_loop (σ := Nat × Nat × Nat × Nat) (fun n r s => wX_findEnd_13 post o (nI M) nn cu tu fc ft se co a1 a2 a3 a4 a5 a6 n (nI s.1) (nI s.2.1) (nI s.2.2.1) (nI s.2.2.2) (nI r))
    (fun r s => fe_I (fun i => fe_key o (a3 i)) M s.1 s.2.1 s.2.2.1 s.2.2.2 ∧ r < s.1 + s.2.1 + s.2.2.1) 64 0 (0, 1, 0, 1) (by omega) ⟨fe_begin h0, by decide⟩ ?_ ?_
  · rintro n ⟨b, k, q, p⟩ ⟨hI, hr⟩
    dsimp only at hI hr
    obtain ⟨h1, h2, ⟨c, hc⟩, h4, _⟩ := hI
    exact absurd hr (by omega)
  · rintro n r ⟨b, k, q, p⟩ hr64 ⟨hI, hr⟩ hw
    dsimp only at hI hr
    have hI' := hI
    obtain ⟨h1, h2, ⟨c, hc⟩, h4, _⟩ := hI'
    show wX_findEnd_13 post o (nI M) nn cu tu fc ft se co a1 a2 a3 a4 a5 a6 (n + 1) (nI b) (nI k) (nI q) (nI p) (nI r)
    refine pk_le 64 r (fun z => absurd z (by omega)) (fun _ => ?_)
    refine pk_le M (k + q) (fun z => H b p (fe_out hI (by omega))) (fun z => ⟨pk_in (k + q) 16 (by omega) (nI_add k q), ?_⟩) rfl (nI_add k q)
    refine nm_r (e' := a3 (k + q)) (by rw [nI_add, nI_clamp (by omega)]) ⟨pk_in (b + q) 16 (by omega) (nI_add b q), nm_r (e' := a3 (b + q)) (by rw [nI_add, nI_clamp (by omega)]) ?_⟩
    refine br_c (fun e => ?_) (fun e => ?_)
    · refine nm_r (nI_1 q) (pk_eq (q + 1) p (fun y => nm_r (nI_add k p) (nm_r (nI_1 r) ?_)) (fun y => nm_r (nI_1 r) ?_))
      · exact hw (b, k + p, 0, p) ⟨fe_eq2 hI z (congrArg (fe_key o) e) y, by dsimp only; omega⟩
      · exact hw (b, k, q + 1, p) ⟨fe_eq1 hI z (congrArg (fe_key o) e) y, by dsimp only; omega⟩
    · refine fe_small e (fun h => br_f (by decide) (nm_r (e' := nI (k + q + 1)) (by rw [nI_add, nI_1]) (nm_r (e' := nI (k + q + 1 - b)) (pk_sub (by omega)) (nm_r (nI_1 r) ?_)))) (fun h => br_t rfl (nm_r (nI_1 k) (nm_r (nI_1 r) ?_)))
      · exact hw (b, k + q + 1, 0, k + q + 1 - b) ⟨fe_sm hI z h, by dsimp only; omega⟩
      · exact hw (k, k + 1, 0, 1) ⟨fe_gr hI z h, by dsimp only; omega⟩
theorem cw_cut {post : St1 → Prop} {M : Nat} (hM : M ≤ 16) (h0 : 0 < M) (H : ∀ b p fc' ft', fe_R a3 M b p → post (nI M, nn, nI b, nI p, fc', ft', se, co, a1, a2, a3, a4, a5, a6)) :
    wpX_cutWord post (nI M, nn, cu, tu, fc, ft, se, co, a1, a2, a3, a4, a5, a6) := by
  unfold wpX_cutWord
  refine fe_find hM h0 (fun b p h => ?_)
  refine fe_find hM h0 (fun b' p' h' => ?_)
  have hb := h.2.1
  have hb' := h'.2.1
  exact pk_le b' b (fun _ => H b p _ _ h) (fun _ => H b' p' _ _ h')
/-! ===== periodic, rightDifference, leftFits, search ===== -/
theorem pe_periodic {post : Int32 → Prop} {M b p : Nat} (hM : M ≤ 16) (hR : fe_R a3 M b p) (H0 : post 0) (H1 : (∀ i, i < b → a3 i = a3 (i + p)) → post 1) :
    wpX_periodic post (nI M, nn, nI b, nI p, fc, ft, se, co, a1, a2, a3, a4, a5, a6) := by
  have h1 := hR.1
  have h2 := hR.2.1
  refine pk_le (b + p) M (fun _ => ?_) (fun _ => H0) (nI_add b p)
  refine pk_loop (σ := Unit) (fun n i _ => wX_periodic_20 post (nI M) nn (nI b) (nI p) fc ft se co a1 a2 a3 a4 a5 a6 n (nI i)) (fun i _ => ∀ x, x < i → a3 x = a3 (x + p)) b 0 () (by omega) (fun x hx => absurd hx (by omega)) ?_ ?_
  · intro n _ hI
    exact pk_le b b (fun _ => H1 hI) (fun z => absurd z (by omega))
  · intro n i _ hi hI hw
    refine pk_le b i (fun z => absurd z (by omega)) (fun _ => ⟨pk_in i 16 (by omega), pk_in (i + p) 16 (by omega) (nI_add i p), ?_⟩)
    rw [nI_add, nI_clamp (show i < 2 ^ 31 by omega), nI_clamp (show i + p < 2 ^ 31 by omega)]
    refine br_c (fun e => nm_r (nI_1 i) (hw () (fun x hx => ?_))) (fun _ => H0)
    rcases Nat.lt_or_ge x i with z | z
    · exact hI x z
    · have ex : x = i := by omega
      subst ex
      exact e
theorem pe_whole {w : Nat → Int32} {M b p : Nat} (hR : fe_R w M b p) (h : ∀ i, i < b → w i = w (i + p)) : b < p ∧ ∀ i, i + p < M → w i = w (i + p) := by
  obtain ⟨h1, h2, h3, h4⟩ := hR
  have hw : ∀ i, i + p < M → w i = w (i + p) := by
    intro i hi
    rcases Nat.lt_or_ge i b with z | z
    · exact h i z
    · exact h3 i (i + p) z rfl hi
  refine ⟨?_, hw⟩
  rcases Nat.lt_or_ge b p with z | z
  · exact z
  · obtain ⟨t, t1, t2⟩ := h4 (b - p) (by omega)
    refine absurd ?_ t2
    rw [hw (b - p + t) (by omega)]
    exact congrArg w (by omega)
theorem rd_20 {post : Int32 → Prop} {M j l : Nat} (hM : M ≤ 16) (hj : j + M ≤ 48) (hl : l ≤ M) (H : ∀ i, l ≤ i → i ≤ M → (∀ x, l ≤ x → x < i → a3 x = a2 (j + x)) → post (nI i)) :
    ∃ n, wX_rightDifference_20 post (nI j) (nI M) nn cu tu fc ft se co a1 a2 a3 a4 a5 a6 n (nI l) 0 := by
  refine pk_loop (σ := Nat) (fun n c s => wX_rightDifference_20 post (nI j) (nI M) nn cu tu fc ft se co a1 a2 a3 a4 a5 a6 n (nI s) (nI c)) (fun c s => l ≤ s ∧ c ≤ s ∧ s ≤ M ∧ ∀ x, l ≤ x → x < s → a3 x = a2 (j + x)) 16 0 l (by omega) ⟨Nat.le_refl l, by omega, hl, fun x h1 h2 => absurd h1 (by omega)⟩ ?_ ?_
  · rintro n s ⟨h1, h2, h3, h4⟩
    exact pk_le 16 16 (fun _ => H s h1 h3 h4) (fun z => absurd z (by omega))
  · rintro n c s hc ⟨h1, h2, h3, h4⟩ hw
    refine pk_le 16 c (fun z => absurd z (by omega)) (fun _ => ?_)
    refine pk_le M s (fun _ => H s h1 h3 h4) (fun z => ⟨pk_in s 16 (by omega), pk_in (j + s) 48 (by omega) (by rw [nI_add, Nat.add_comm]), ?_⟩)
    rw [nI_add, nI_clamp (show s < 2 ^ 31 by omega), nI_clamp (show s + j < 2 ^ 31 by omega), Nat.add_comm s j]
    refine br_c (fun e => nm_r (nI_1 s) (nm_r (nI_1 c) (hw (s + 1) ⟨by omega, by omega, by omega, fun x g1 g2 => ?_⟩))) (fun _ => H s h1 h3 h4)
    rcases Nat.lt_or_ge x s with y | y
    · exact h4 x g1 y
    · have ex : x = s := by omega
      subst ex
      exact e
theorem rd_right {post : Int32 → Prop} {M b j k : Nat} (hM : M ≤ 16) (hj : j + M ≤ 48) (hb : b ≤ M) (hk : k ≤ M)
    (H : ∀ i, b ≤ i → i ≤ M → (∀ x, b ≤ x → k ≤ x → x < i → a3 x = a2 (j + x)) → post (nI i)) :
    wpX_rightDifference post (nI M, nn, nI b, tu, fc, ft, se, co, a1, a2, a3, a4, a5, a6) (nI j) (nI k) := by
  refine pk_le b k (fun z => ?_) (fun z => ?_)
  · exact rd_20 hM hj hk (fun i h1 h2 h3 => H i (by omega) h2 (fun x _ g2 g3 => h3 x g2 g3))
  · exact rd_20 hM hj hb (fun i h1 h2 h3 => H i h1 h2 (fun x g1 _ g3 => h3 x g1 g3))
theorem lf_left {post : Int32 → Prop} {M b j k : Nat} (hM : M ≤ 16) (hj : j + M ≤ 48) (hb : b ≤ M) (hk : k ≤ M) (H0 : post 0) (H1 : (∀ x, k ≤ x → x < b → a3 x = a2 (j + x)) → post 1) :
    wpX_leftFits post (nI M, nn, nI b, tu, fc, ft, se, co, a1, a2, a3, a4, a5, a6) (nI j) (nI k) := by
  refine nm_e ?_
  have main : ∀ c, c ≤ b → (∀ x, c ≤ x → x < b → a3 x = a2 (j + x)) → wX_leftFits_7 post (nI j) (nI k) (nI M) nn (nI b) tu fc ft se co a1 a2 a3 a4 a5 a6 (c + 1) (nI c - 1) := by
    intro c
    induction c with
    | zero =>
      intro hc hx
      refine br_t ?_ (H1 (fun x g1 g2 => hx x (by omega) g2))
      rw [Int32.lt_iff_toInt_lt, nI_toInt (by omega)]
      have e : (nI 0 - 1 : Int32).toInt = -1 := by decide
      rw [e]
      omega
    | succ c ih =>
      intro hc hx
      rw [nI_pred]
      refine pk_lt c k (fun z => H1 (fun x g1 g2 => hx x (by omega) g2)) (fun z => ⟨pk_in c 16 (by omega), pk_in (j + c) 48 (by omega) (by rw [nI_add, Nat.add_comm]), ?_⟩)
      rw [nI_add, nI_clamp (show c < 2 ^ 31 by omega), nI_clamp (show c + j < 2 ^ 31 by omega), Nat.add_comm c j]
      refine br_c (fun e => nm_r (e' := nI c - 1) (by rw [Int32.sub_eq_add_neg]) (ih (by omega) (fun x g1 g2 => ?_))) (fun _ => H0)
      rcases Nat.eq_or_lt_of_le g1 with y | y
      · rw [← y]; exact e
      · exact hx x (by omega) g2
  exact ⟨b + 1, main b (Nat.le_refl b) (fun x g1 g2 => absurd g1 (by omega))⟩
theorem se_57 {post : Int32 → Prop} {M N b sh fr : Nat} {ag : Int32} (hM : M ≤ 16) (hN : N ≤ 48) (hb : b ≤ M) (hsh : sh ≤ 17) (hfr : fr ≤ 100)
    (hag : ¬ ag = 0 → sh ≤ M ∧ b < sh ∧ ∀ i, i + sh < M → a3 i = a3 (i + sh)) (Hm : post (-1)) (Hp : ∀ j, fr ≤ j → j + M ≤ N → oc_O a3 a2 M j → post (nI j)) :
    ∃ n, wX_search_57 post ag (nI sh) (nI M) (nI N) (nI b) tu fc ft se co a1 a2 a3 a4 a5 a6 n 0 (nI fr) 0 := by
  refine pk_loop (σ := Nat × Nat) (fun n r s => wX_search_57 post ag (nI sh) (nI M) (nI N) (nI b) tu fc ft se co a1 a2 a3 a4 a5 a6 n (nI s.1) (nI s.2) (nI r))
    (fun r s => s.1 ≤ M ∧ fr ≤ s.2 ∧ s.2 ≤ 100 ∧ ∀ x, x < s.1 → a3 x = a2 (s.2 + x)) 49 0 (0, fr) (by omega) ⟨by omega, by omega, hfr, fun x hx => absurd hx (by omega)⟩ ?_ ?_
  · rintro n ⟨k, j⟩ _
    exact pk_lt 48 49 (fun _ => Hm) (fun z => absurd z (by omega))
  · rintro n r ⟨k, j⟩ hr ⟨h1, h2, h3, h4⟩ hw
    dsimp only at h1 h2 h3 h4
    show wX_search_57 post ag (nI sh) (nI M) (nI N) (nI b) tu fc ft se co a1 a2 a3 a4 a5 a6 (n + 1) (nI k) (nI j) (nI r)
    refine pk_lt 48 r (fun z => absurd z (by omega)) (fun _ => ?_)
    refine pk_lt N (j + M) (fun _ => Hm) (fun hjN => ?_) rfl (nI_add j M)
    refine rd_right hM (by omega) hb h1 (fun i g1 g2 g3 => ?_)
    refine pk_le M i (fun z => ?_) (fun z => ?_)
    · have ei : i = M := by omega
      subst ei
      refine lf_left hM (by omega) hb h1 ?_ (fun g4 => ?_)
      · refine br_t rfl (nm_r (nI_add j sh) (br_c (fun ea => nm_r (nI_1 r) ?_) (fun ea => ?_)))
        · exact hw (0, j + sh) ⟨by dsimp only; omega, by dsimp only; omega, by dsimp only; omega, fun x hx => absurd hx (by dsimp only; omega)⟩
        · obtain ⟨k1, k2, k3⟩ := hag ea
          refine nm_r (e' := nI (i - sh)) (pk_sub k1) (nm_r (nI_1 r) (hw (i - sh, j + sh) ⟨by dsimp only; omega, by dsimp only; omega, by dsimp only; omega, fun x hx => ?_⟩))
          dsimp only at hx ⊢
          rw [k3 x (by omega)]
          have e1 : a3 (x + sh) = a2 (j + (x + sh)) := by
            rcases Nat.lt_or_ge (x + sh) k with y | y
            · exact h4 _ y
            · exact g3 _ (by omega) y (by omega)
          rw [e1]
          exact congrArg a2 (by omega)
      · refine br_f (by decide) (Hp j h2 hjN (fun x hx => ?_))
        rcases Nat.lt_or_ge x k with y | y
        · exact h4 x y
        · rcases Nat.lt_or_ge x b with y' | y'
          · exact g4 x y y'
          · exact g3 x y' y hx
    · refine nm_r (e' := nI (j + i - b + 1)) (by rw [nI_add, pk_sub (by omega), nI_1]) (nm_r (nI_1 r) (hw (0, j + i - b + 1) ⟨by dsimp only; omega, by dsimp only; omega, by dsimp only; omega, fun x hx => absurd hx (by dsimp only; omega)⟩))
theorem se_search {post : Int32 → Prop} {M N b p fr : Nat} (hM : M ≤ 16) (hN : N ≤ 48) (hR : fe_R a3 M b p) (hfr : fr ≤ 100) (Hm : post (-1)) (Hp : ∀ j, fr ≤ j → j + M ≤ N → oc_O a3 a2 M j → post (nI j)) :
    wpX_search post (nI M, nI N, nI b, nI p, fc, ft, se, co, a1, a2, a3, a4, a5, a6) (nI fr) := by
  have h1 := hR.1
  have h2 := hR.2.1
  unfold wpX_search
  refine pe_periodic hM hR ?_ (fun hw => ?_)
  · refine nm_r (e' := nI (M - b)) (pk_sub (by omega)) (br_t rfl (pk_le b (M - b) (fun z => ?_) (fun z => ?_)))
    · exact nm_r (nI_1 (M - b)) (se_57 hM hN (by omega) (by omega) hfr (fun z => absurd rfl z) Hm Hp)
    · exact nm_r (nI_1 b) (se_57 hM hN (by omega) (by omega) hfr (fun z => absurd rfl z) Hm Hp)
  · obtain ⟨k1, k2⟩ := pe_whole hR hw
    refine nm_r (e' := nI (M - b)) (pk_sub (by omega)) (br_f (by decide) ?_)
    exact se_57 hM hN (by omega) (by omega) hfr (fun _ => ⟨by omega, k1, k2⟩) Hm Hp
end
end
section
/-! ===== findAll, next, occurrences ===== -/
section
variable {nn cu tu fc ft se co : Int32} {a1 a2 a3 a4 a5 a6 : Nat → Int32}
/-- C places, growing, each an occurrence of p in t -/
def fa_Q (p t : Nat → Int32) (M N C : Nat) (pl : Nat → Nat) (a : Nat → Int32) : Prop :=
  C ≤ 48 ∧ (∀ x, x < C → a x = nI (pl x)) ∧ (∀ x y, x < y → y < C → pl x < pl y) ∧ ∀ x, x < C → pl x + M ≤ N ∧ oc_O p t M (pl x)
theorem fa_none {p t : Nat → Int32} {M N : Nat} {pl : Nat → Nat} {a : Nat → Int32} : fa_Q p t M N 0 pl a :=
  ⟨by omega, fun x hx => absurd hx (by omega), fun x y _ hy => absurd hy (by omega), fun x hx => absurd hx (by omega)⟩
theorem fa_add {p t : Nat → Int32} {M N C j : Nat} {pl : Nat → Nat} {a : Nat → Int32} (h : fa_Q p t M N C pl a) (hC : C < 48) (h1 : j + M ≤ N) (h2 : oc_O p t M j) (h3 : ∀ x, x < C → pl x < j) :
    fa_Q p t M N (C + 1) (fun x => if x = C then j else pl x) (upd a C (nI j)) := by
  obtain ⟨g1, g2, g3, g4⟩ := h
  refine ⟨by omega, fun x hx => ?_, fun x y hxy hy => ?_, fun x hx => ?_⟩
  · dsimp only
    by_cases e : x = C
    · rw [e, pk_us, if_pos rfl]
    · rw [pk_un e, if_neg e]
      exact g2 x (by omega)
  · dsimp only
    by_cases e : y = C
    · rw [if_pos e, if_neg (by omega)]
      exact h3 x (by omega)
    · rw [if_neg e, if_neg (by omega)]
      exact g3 x y hxy (by omega)
  · dsimp only
    by_cases e : x = C
    · rw [if_pos e]
      exact ⟨h1, h2⟩
    · rw [if_neg e]
      exact g4 x (by omega)
theorem fa_37 {post : St1 → Prop} {M N b p : Nat} {s : Int32} (hM : M ≤ 16) (h0 : 0 < M) (hN : N ≤ 48) (hR : fe_R a3 M b p) (hW : ∀ i, i < M → a3 i = a1 i)
    (hs : s = -1 ∨ ∃ j, s = nI j ∧ j + M ≤ N ∧ oc_O a1 a2 M j)
    (H : ∀ C pl a4', fa_Q a1 a2 M N C pl a4' → post (nI M, nI N, nI b, nI p, fc, ft, 1, nI C, a1, a2, a3, a4', a5, a6)) :
    ∃ n, wX_findAll_37 post (nI M) (nI N) (nI b) (nI p) fc ft se n s 0 0 a1 a2 a3 a4 a5 a6 := by
  have hO : ∀ j, oc_O a3 a2 M j → oc_O a1 a2 M j := fun j h i hi => by rw [← hW i hi]; exact h i hi
  refine pk_loop (σ := Int32 × (Nat → Int32)) (fun n r s => wX_findAll_37 post (nI M) (nI N) (nI b) (nI p) fc ft se n s.1 (nI r) (nI r) a1 a2 a3 s.2 a5 a6)
    (fun r s => ∃ pl, fa_Q a1 a2 M N r pl s.2 ∧ (s.1 = -1 ∨ ∃ j, s.1 = nI j ∧ j + M ≤ N ∧ oc_O a1 a2 M j ∧ ∀ x, x < r → pl x < j)) 48 0 (s, a4) (by omega) ⟨fun _ => 0, fa_none, ?_⟩ ?_ ?_
  · rcases hs with e | ⟨j, e, h1, h2⟩
    · exact Or.inl e
    · exact Or.inr ⟨j, e, h1, h2, fun x hx => absurd hx (by omega)⟩
  · rintro n ⟨s, a⟩ ⟨pl, hQ, _⟩
    exact pk_le 48 48 (fun _ => H 48 pl a hQ) (fun z => absurd z (by omega))
  · rintro n r ⟨s, a⟩ hr ⟨pl, hQ, hs⟩ hw
    dsimp only at hQ hs
    show wX_findAll_37 post (nI M) (nI N) (nI b) (nI p) fc ft se (n + 1) s (nI r) (nI r) a1 a2 a3 a a5 a6
    refine pk_le 48 r (fun z => absurd z (by omega)) (fun _ => ?_)
    rcases hs with e | ⟨j, e, h1, h2, h3⟩
    · exact br_t (by rw [e]; decide) (H r pl a hQ)
    · subst e
      refine br_f (nI_pos (by omega)) ⟨pk_in r 48 hr, nm_r (e' := upd a r (nI j)) (by rw [nI_clamp (by omega)]) (nm_r (nI_1 r) ?_)⟩
      rw [nI_1 j]
      have hA := fa_add hQ hr h1 h2 h3
      refine se_search hM hN hR (by omega) ?_ (fun j' g1 g2 g3 => ?_)
      · exact nm_r (nI_1 r) (hw (-1, upd a r (nI j)) ⟨_, hA, Or.inl rfl⟩)
      · refine nm_r (nI_1 r) (hw (nI j', upd a r (nI j)) ⟨_, hA, Or.inr ⟨j', rfl, g2, hO j' g3, fun x hx => ?_⟩⟩)
        by_cases e : x = r
        · rw [if_pos e]; omega
        · rw [if_neg e]
          have := h3 x (by omega)
          omega
theorem fa_all {post : St1 → Prop} {M N : Nat} (hM : M ≤ 16) (hN : N ≤ 48)
    (H : ∀ C pl cu' tu' fc' ft' a3' a4', fa_Q a1 a2 M N C pl a4' → (M = 0 → C = 0) → post (nI M, nI N, cu', tu', fc', ft', 1, nI C, a1, a2, a3', a4', a5, a6)) :
    wpX_findAll post (nI M, nI N, cu, tu, fc, ft, 0, co, a1, a2, a3, a4, a5, a6) := by
  refine br_t rfl (pk_le M 0 (fun z => ?_) (fun z => ?_))
  · exact H 0 (fun _ => 0) _ _ _ _ _ _ fa_none (fun _ => rfl)
  · refine ro_into hM (fun w hw => ?_)
    refine cw_cut hM z (fun b p fc' ft' hR => ?_)
    have hO : ∀ j, oc_O w a2 M j → oc_O a1 a2 M j := fun j h i hi => by rw [← hw i hi]; exact h i hi
    refine se_search (fr := 0) hM hN hR (by omega) ?_ (fun j _ g2 g3 => ?_)
    · exact fa_37 hM z hN hR hw (Or.inl rfl) (fun C pl a4' hQ => H C pl _ _ _ _ _ _ hQ (fun e => absurd e (by omega)))
    · exact fa_37 hM z hN hR hw (Or.inr ⟨j, rfl, g2, hO j g3⟩) (fun C pl a4' hQ => H C pl _ _ _ _ _ _ hQ (fun e => absurd e (by omega)))
theorem nt_6 {post : Int32 → St1 → Prop} {mm : Int32} {C fr c : Nat} {pl : Nat → Nat} (hC : C ≤ 48) (hA : ∀ x, x < C → a4 x = nI (pl x)) (hB : ∀ x, x < C → pl x ≤ 48) (hfr : fr ≤ 100) (hc : c ≤ C)
    (h1 : ∀ x, x < c → pl x < fr) (h2 : c < C → fr ≤ pl c)
    (H : post (if c < C then nI (pl c) else -4) (mm, nn, cu, tu, fc, ft, se, nI C, a1, a2, a3, a4, a5, a6)) :
    ∃ n, wX_next_6 post (nI fr) mm nn cu tu fc ft se (nI C) a1 a2 a3 a4 a5 a6 n 0 := by
  refine pk_loop (σ := Unit) (fun n i _ => wX_next_6 post (nI fr) mm nn cu tu fc ft se (nI C) a1 a2 a3 a4 a5 a6 n (nI i)) (fun _ _ => True) c 0 () (by omega) trivial ?_ ?_
  · intro n _ _
    refine pk_le C c (fun z => ?_) (fun z => ⟨pk_in c 48 (by omega), ?_⟩)
    · rw [if_neg (by omega)] at H
      exact H
    · rw [if_pos z] at H
      rw [nI_clamp (show c < 2 ^ 31 by omega), hA c z]
      have hb := hB c z
      exact pk_lt (pl c) fr (fun y => absurd (h2 z) (by omega)) (fun _ => ⟨pk_in c 48 (by omega), H⟩)
  · intro n i _ hi _ hw
    refine pk_le C i (fun z => absurd z (by omega)) (fun z => ⟨pk_in i 48 (by omega), ?_⟩)
    rw [nI_clamp (show i < 2 ^ 31 by omega), hA i z]
    have hb := hB i z
    exact pk_lt (pl i) fr (fun _ => nm_r (nI_1 i) (hw () trivial)) (fun y => absurd (h1 i hi) (by omega))
/-- the first call: it searches -/
theorem nt_first {post : Int32 → St1 → Prop} {M N : Nat} (hM : M ≤ 16) (hN : N ≤ 48)
    (H : ∀ C pl cu' tu' fc' ft' a3' a4', fa_Q a1 a2 M N C pl a4' → (M = 0 → C = 0) → post (if 0 < C then nI (pl 0) else -4) (nI M, nI N, cu', tu', fc', ft', 1, nI C, a1, a2, a3', a4', a5, a6)) :
    wpX_next post (nI M, nI N, cu, tu, fc, ft, 0, co, a1, a2, a3, a4, a5, a6) 0 := by
  unfold wpX_next
  refine fa_all hM hN (fun C pl cu' tu' fc' ft' a3' a4' hQ h0 => ?_)
  refine nt_6 (fr := 0) (c := 0) (pl := pl) hQ.1 hQ.2.1 (fun x hx => ?_) (by omega) (by omega) (fun x hx => absurd hx (by omega)) (fun _ => by omega) (H C pl cu' tu' fc' ft' a3' a4' hQ h0)
  have := (hQ.2.2.2 x hx).1
  omega
/-- a later call: the places stand -/
theorem nt_later {post : Int32 → St1 → Prop} {M N C c : Nat} {pl : Nat → Nat} (hN : N ≤ 48) (hQ : fa_Q a1 a2 M N C pl a4) (hc : c < C)
    (H : post (if c + 1 < C then nI (pl (c + 1)) else -4) (nI M, nI N, cu, tu, fc, ft, 1, nI C, a1, a2, a3, a4, a5, a6)) :
    wpX_next post (nI M, nI N, cu, tu, fc, ft, 1, nI C, a1, a2, a3, a4, a5, a6) (nI (pl c + 1)) := by
  unfold wpX_next
  refine br_f (by decide) ?_
  have hB : ∀ x, x < C → pl x ≤ 48 := fun x hx => by
    have := (hQ.2.2.2 x hx).1
    omega
  have hb := hB c hc
  refine nt_6 (c := c + 1) (pl := pl) hQ.1 hQ.2.1 hB (by omega) (by omega) (fun x hx => ?_) (fun z => ?_) H
  · rcases Nat.lt_or_ge x c with y | y
    · have := hQ.2.2.1 x c y hc
      omega
    · have e : x = c := by omega
      subst e
      omega
  · have := hQ.2.2.1 c (c + 1) (by omega) z
    omega
theorem fa_occ {post : Int32 → St1 → Prop} {mm : Int32} (H : post co (mm, nn, cu, tu, fc, ft, 1, co, a1, a2, a3, a4, a5, a6)) :
    wpX_occurrences post (mm, nn, cu, tu, fc, ft, 1, co, a1, a2, a3, a4, a5, a6) := by
  unfold wpX_occurrences
  exact br_f (by decide) H
end
end
section
/-! ===== cutFactors, factors, factor: what they answer hangs on the pattern alone ===== -/
/-- s: the factors' running sums; c factors that reach i -/
def ft_G (s : Nat → Nat) (c i : Nat) : Prop := s 0 = 0 ∧ s c = i ∧ ∀ x, x < c → s x < s (x + 1)
/-- the array holds the sizes -/
def ft_A (s : Nat → Nat) (c : Nat) (a : Nat → Int32) : Prop := ∀ x, x < c → a x = nI (s (x + 1) - s x)
theorem ft_Gadd {s : Nat → Nat} {c i z : Nat} (h : ft_G s c i) (hz : 1 ≤ z) : ft_G (fun x => if x ≤ c then s x else i + z) (c + 1) (i + z) := by
  obtain ⟨h1, h2, h3⟩ := h
  refine ⟨by dsimp only; rw [if_pos (by omega)]; exact h1, by dsimp only; rw [if_neg (by omega)], fun x hx => ?_⟩
  dsimp only
  rcases Nat.lt_or_ge x c with y | y
  · rw [if_pos (by omega), if_pos (by omega)]
    exact h3 x y
  · have e : x = c := by omega
    subst e
    rw [if_pos (by omega), if_neg (by omega), h2]
    omega
theorem ft_Aadd {s : Nat → Nat} {c i z : Nat} {a : Nat → Int32} (h : ft_G s c i) (g : ft_A s c a) : ft_A (fun x => if x ≤ c then s x else i + z) (c + 1) (upd a c (nI z)) := by
  obtain ⟨h1, h2, h3⟩ := h
  intro x hx
  dsimp only
  rcases Nat.lt_or_ge x c with y | y
  · rw [if_pos (by omega), if_pos (by omega), pk_un (by omega)]
    exact g x y
  · have e : x = c := by omega
    subst e
    rw [if_neg (show ¬ x + 1 ≤ x by omega), if_pos (Nat.le_refl x), h2, pk_us]
    exact congrArg nI (by omega)
theorem ft_110 {k z : Nat} (hz : 1 ≤ z) (hkz : k + z ≤ 16) : ∀ (r t c i : Nat) (s : Nat → Nat), r + t = 16 → ft_G s c i → c ≤ i → i ≤ k + z →
    ∃ (c' i' : Nat) (s' : Nat → Nat), ft_G s' c' i' ∧ c' ≤ i' ∧ i' ≤ k + z ∧ i ≤ i' ∧ (i ≤ k → 0 < r → i < i') ∧
    ∀ (post : Int32 → St1 → Prop) (J : Int32 → Int32 → Int32 → (Nat → Int32) → (Nat → Int32) → (Nat → Int32) → (Nat → Int32) → (Nat → Int32) → (Nat → Int32) → Prop) (rd mm nn cu tu fc ft se co : Int32) (a1 a2 a3 a4 a5 a6 : Nat → Int32), ft_A s c a6 →
      (∀ a, ft_A s' c' a → ∀ rd', rd' = rd + 1 → J (nI c') (nI i') rd' a1 a2 a3 a4 a5 a) →
      wX_cutFactors_110 post J rd (nI k) (nI z) mm nn cu tu fc ft se co (r + 1) (nI c) (nI i) (nI t) a1 a2 a3 a4 a5 a6 := by
  intro r
  induction r with
  | zero =>
    intro t c i s ht hG hc hi
    refine ⟨c, i, s, hG, hc, hi, Nat.le_refl i, fun _ y => absurd y (by omega), fun post J rd mm nn cu tu fc ft se co a1 a2 a3 a4 a5 a6 hA H => ?_⟩
    exact pk_le 16 t (fun _ => H a6 hA) (fun y => absurd y (by omega))
  | succ r ih =>
    intro t c i s ht hG hc hi
    rcases Nat.lt_or_ge k i with y | y
    · refine ⟨c, i, s, hG, hc, hi, Nat.le_refl i, fun y' => absurd y' (by omega), fun post J rd mm nn cu tu fc ft se co a1 a2 a3 a4 a5 a6 hA H => ?_⟩
      exact pk_le 16 t (fun y' => absurd y' (by omega)) (fun _ => pk_lt k i (fun _ => H a6 hA) (fun y' => absurd y' (by omega)))
    · obtain ⟨c', i', s', k1, k2, k3, k4, k5, k6⟩ := ih (t + 1) (c + 1) (i + z) (fun x => if x ≤ c then s x else i + z) (by omega) (ft_Gadd hG hz) (by omega) (by omega)
      refine ⟨c', i', s', k1, k2, k3, by omega, fun _ _ => by omega, fun post J rd mm nn cu tu fc ft se co a1 a2 a3 a4 a5 a6 hA H => ?_⟩
      refine pk_le 16 t (fun y' => absurd y' (by omega)) (fun _ => pk_lt k i (fun y' => absurd y' (by omega)) (fun _ => ⟨pk_in c 16 (by omega), nm_r (e' := upd a6 c (nI z)) (by rw [nI_clamp (by omega)]) (nm_r (nI_1 c) (nm_r (nI_add i z) (nm_r (nI_1 t) ?_)))⟩))
      exact k6 post J rd mm nn cu tu fc ft se co a1 a2 a3 a4 a5 _ (ft_Aadd hG hA) H
theorem ft_31 {M i : Nat} (p : Nat → Int32) (hM : M ≤ 16) : ∀ (r t j k : Nat), r + t = 16 → i ≤ k → k < j → j ≤ M →
    ∃ j' k' : Nat, i ≤ k' ∧ k' < j' ∧ j' ≤ M ∧
    ∀ (post : Int32 → St1 → Prop) (J : Int32 → Int32 → Int32 → (Nat → Int32) → (Nat → Int32) → (Nat → Int32) → (Nat → Int32) → (Nat → Int32) → (Nat → Int32) → Prop) (x1 rd nn cu tu fc ft se co : Int32) (a2 a3 a4 a5 a6 : Nat → Int32),
      (∃ fu, wX_cutFactors_110 post J rd (nI k') (nI (j' - k')) (nI M) nn cu tu fc ft se co fu x1 (nI i) 0 p a2 a3 a4 a5 a6) →
      wX_cutFactors_31 post J x1 (nI i) rd (nI M) nn cu tu fc ft se co p a2 a3 a4 a5 a6 (r + 1) (nI j) (nI k) (nI t) := by
  intro r
  induction r with
  | zero =>
    intro t j k ht h1 h2 h3
    refine ⟨j, k, h1, h2, h3, fun post J x1 rd nn cu tu fc ft se co a2 a3 a4 a5 a6 H => ?_⟩
    exact pk_le 16 t (fun _ => nm_r (pk_sub (by omega)) H) (fun y => absurd y (by omega))
  | succ r ih =>
    intro t j k ht h1 h2 h3
    rcases Nat.lt_or_ge j M with y | y
    · by_cases c1 : p j < p k
      · refine ⟨j, k, h1, h2, h3, fun post J x1 rd nn cu tu fc ft se co a2 a3 a4 a5 a6 H => ?_⟩
        refine pk_le 16 t (fun y' => absurd y' (by omega)) (fun _ => pk_le M j (fun y' => absurd y' (by omega)) (fun _ => ⟨pk_in k 16 (by omega), pk_in j 16 (by omega), ?_⟩))
        rw [nI_clamp (show j < 2 ^ 31 by omega), nI_clamp (show k < 2 ^ 31 by omega)]
        exact br_t c1 (nm_r (pk_sub (by omega)) H)
      · by_cases c2 : p j ≤ p k
        · obtain ⟨j', k', g1, g2, g3, g4⟩ := ih (t + 1) (j + 1) (k + 1) (by omega) (by omega) (by omega) (by omega)
          refine ⟨j', k', g1, g2, g3, fun post J x1 rd nn cu tu fc ft se co a2 a3 a4 a5 a6 H => ?_⟩
          refine pk_le 16 t (fun y' => absurd y' (by omega)) (fun _ => pk_le M j (fun y' => absurd y' (by omega)) (fun _ => ⟨pk_in k 16 (by omega), pk_in j 16 (by omega), ?_⟩))
          rw [nI_clamp (show j < 2 ^ 31 by omega), nI_clamp (show k < 2 ^ 31 by omega)]
          exact br_f c1 ⟨pk_in k 16 (by omega), pk_in j 16 (by omega), br_t c2 (nm_r (nI_1 k) (nm_r (nI_1 j) (nm_r (nI_1 t) (g4 post J x1 rd nn cu tu fc ft se co a2 a3 a4 a5 a6 H))))⟩
        · obtain ⟨j', k', g1, g2, g3, g4⟩ := ih (t + 1) (j + 1) i (by omega) (by omega) (by omega) (by omega)
          refine ⟨j', k', g1, g2, g3, fun post J x1 rd nn cu tu fc ft se co a2 a3 a4 a5 a6 H => ?_⟩
          refine pk_le 16 t (fun y' => absurd y' (by omega)) (fun _ => pk_le M j (fun y' => absurd y' (by omega)) (fun _ => ⟨pk_in k 16 (by omega), pk_in j 16 (by omega), ?_⟩))
          rw [nI_clamp (show j < 2 ^ 31 by omega), nI_clamp (show k < 2 ^ 31 by omega)]
          exact br_f c1 ⟨pk_in k 16 (by omega), pk_in j 16 (by omega), br_f c2 (nm_r (nI_1 j) (nm_r (nI_1 t) (g4 post J x1 rd nn cu tu fc ft se co a2 a3 a4 a5 a6 H)))⟩
    · refine ⟨j, k, h1, h2, h3, fun post J x1 rd nn cu tu fc ft se co a2 a3 a4 a5 a6 H => ?_⟩
      exact pk_le 16 t (fun y' => absurd y' (by omega)) (fun _ => pk_le M j (fun _ => nm_r (pk_sub (by omega)) H) (fun y' => absurd y' (by omega)))
theorem ft_6 {M : Nat} (p : Nat → Int32) (hM : M ≤ 16) : ∀ (r t c i : Nat) (s : Nat → Nat), r + t = 16 → t ≤ i → i ≤ M → c ≤ i → ft_G s c i →
    ∃ (c' : Nat) (s' : Nat → Nat), ft_G s' c' M ∧ c' ≤ M ∧
    ∀ (post : Int32 → St1 → Prop) (nn cu tu fc ft se co : Int32) (a2 a3 a4 a5 a6 : Nat → Int32), ft_A s c a6 →
      (∀ a, ft_A s' c' a → post (nI c') (nI M, nn, cu, tu, fc, ft, se, co, p, a2, a3, a4, a5, a)) →
      wX_cutFactors_6 post (nI M) nn cu tu fc ft se co (r + 1) (nI c) (nI i) (nI t) p a2 a3 a4 a5 a6 := by
  intro r
  induction r with
  | zero =>
    intro t c i s ht hti hi hc hG
    have e : i = M := by omega
    subst e
    refine ⟨c, s, hG, hc, fun post nn cu tu fc ft se co a2 a3 a4 a5 a6 hA H => ?_⟩
    exact pk_le 16 t (fun _ => H a6 hA) (fun y => absurd y (by omega))
  | succ r ih =>
    intro t c i s ht hti hi hc hG
    rcases Nat.lt_or_ge i M with y | y
    · obtain ⟨j, k, g1, g2, g3, g4⟩ := ft_31 (i := i) p hM 16 0 (i + 1) i (by omega) (by omega) (by omega) (by omega)
      obtain ⟨c1, i1, s1, k1, k2, k3, k4, k5, k6⟩ := ft_110 (k := k) (z := j - k) (by omega) (by omega) 16 0 c i s (by omega) hG hc (by omega)
      have k5' := k5 g1 (by omega)
      obtain ⟨c', s', l1, l2, l3⟩ := ih (t + 1) c1 i1 s1 (by omega) (by omega) (by omega) k2 k1
      refine ⟨c', s', l1, l2, fun post nn cu tu fc ft se co a2 a3 a4 a5 a6 hA H => ?_⟩
      refine pk_le 16 t (fun y' => absurd y' (by omega)) (fun _ => pk_le M i (fun y' => absurd y' (by omega)) (fun _ => nm_r (nI_1 i) ⟨17, ?_⟩))
      refine g4 post _ (nI c) (nI t) nn cu tu fc ft se co a2 a3 a4 a5 a6 ⟨17, ?_⟩
      refine k6 post _ (nI t) (nI M) nn cu tu fc ft se co p a2 a3 a4 a5 a6 hA (fun a hA' => ?_)
      exact nm_r (nI_1 t) (l3 post nn cu tu fc ft se co a2 a3 a4 a5 a hA' H)
    · have e : i = M := by omega
      subst e
      refine ⟨c, s, hG, hc, fun post nn cu tu fc ft se co a2 a3 a4 a5 a6 hA H => ?_⟩
      exact pk_le 16 t (fun y' => absurd y' (by omega)) (fun _ => pk_le i i (fun _ => H a6 hA) (fun y' => absurd y' (by omega)))
/-- c factors with the running sums s are what cutFactors finds in the first M letters of p -/
def ft_F (p : Nat → Int32) (M c : Nat) (s : Nat → Nat) : Prop :=
  ∀ (post : Int32 → St1 → Prop) (nn cu tu fc ft se co : Int32) (a2 a3 a4 a5 a6 : Nat → Int32),
    (∀ a, ft_A s c a → post (nI c) (nI M, nn, cu, tu, fc, ft, se, co, p, a2, a3, a4, a5, a)) →
    wpX_cutFactors post (nI M, nn, cu, tu, fc, ft, se, co, p, a2, a3, a4, a5, a6)
theorem ft_cut {M : Nat} (p : Nat → Int32) (hM : M ≤ 16) : ∃ (c : Nat) (s : Nat → Nat), ft_G s c M ∧ c ≤ M ∧ ft_F p M c s := by
  obtain ⟨c, s, h1, h2, h3⟩ := ft_6 p hM 16 0 0 0 (fun _ => 0) (by omega) (by omega) (by omega) (by omega) ⟨rfl, rfl, fun x hx => absurd hx (by omega)⟩
  exact ⟨c, s, h1, h2, fun post nn cu tu fc ft se co a2 a3 a4 a5 a6 H => ⟨17, h3 post nn cu tu fc ft se co a2 a3 a4 a5 a6 (fun x hx => absurd hx (by omega)) H⟩⟩
section
variable {nn cu tu fc ft se co : Int32} {a1 a2 a3 a4 a5 a6 : Nat → Int32}
theorem ft_factors {post : Int32 → St1 → Prop} {M c : Nat} {s : Nat → Nat} (hF : ft_F a1 M c s) (H : ∀ a, post (nI c) (nI M, nn, cu, tu, fc, ft, se, co, a1, a2, a3, a4, a5, a)) :
    wpX_factors post (nI M, nn, cu, tu, fc, ft, se, co, a1, a2, a3, a4, a5, a6) := by
  unfold wpX_factors
  exact hF _ nn cu tu fc ft se co a2 a3 a4 a5 a6 (fun a _ => H a)
theorem ft_factor {post : Int32 → St1 → Prop} {M c i : Nat} {s : Nat → Nat} (hF : ft_F a1 M c s) (hM : M ≤ 16) (hc : c ≤ M) (hi : i ≤ c)
    (H : ∀ a, post (if i < c then nI (s (i + 1) - s i) else -4) (nI M, nn, cu, tu, fc, ft, se, co, a1, a2, a3, a4, a5, a)) :
    wpX_factor post (nI M, nn, cu, tu, fc, ft, se, co, a1, a2, a3, a4, a5, a6) (nI i) := by
  unfold wpX_factor
  refine hF _ nn cu tu fc ft se co a2 a3 a4 a5 a6 (fun a hA => ?_)
  refine br_f (nI_pos (by omega)) (pk_lt i c (fun y => ⟨pk_in i 16 (by omega), ?_⟩) (fun y => ?_))
  · have h := H a
    rw [if_pos y] at h
    rw [nI_clamp (by omega), hA i y]
    exact h
  · have h := H a
    rw [if_neg (by omega)] at h
    exact h
end
end
section
/-! ===== one turn of the script ===== -/
section
variable {nn cu tu fc ft se co : Int32} {a1 a2 a3 a4 a5 a6 : Nat → Int32}
theorem tn_bad {post : Int32 → Prop} {mm c : Int32} (H0 : post 0) (H1 : post 1) : wpX_badLetter post (mm, nn, cu, tu, fc, ft, se, co, a1, a2, a3, a4, a5, a6) c :=
  br_c (fun _ => H1) (fun _ => br_c (fun _ => H0) (fun _ => H1))
theorem tn_pattern {post : Int32 → St1 → Prop} {M : Nat} {c : Int32} (hM : M ≤ 16) (H : ∀ r M' a1', M' ≤ 16 → post r (nI M', nn, cu, tu, fc, ft, 0, co, a1', a2, a3, a4, a5, a6)) :
    wpX_pattern post (nI M, nn, cu, tu, fc, ft, 0, co, a1, a2, a3, a4, a5, a6) c := by
  unfold wpX_pattern
  refine tn_bad ?_ ?_
  · exact br_t rfl (pk_eq M 16 (fun _ => H _ M a1 hM) (fun z => ⟨pk_in M 16 (by omega), nm_e (nm_r (nI_1 M) (H _ (M + 1) _ (by omega)))⟩))
  · exact br_f (by decide) (H _ M a1 hM)
theorem tn_feed {post : Int32 → St1 → Prop} {mm : Int32} {N : Nat} {c : Int32} (hN : N ≤ 48) (H : ∀ r N' a2', N' ≤ 48 → post r (mm, nI N', cu, tu, fc, ft, 0, co, a1, a2', a3, a4, a5, a6)) :
    wpX_feed post (mm, nI N, cu, tu, fc, ft, 0, co, a1, a2, a3, a4, a5, a6) c := by
  unfold wpX_feed
  refine tn_bad ?_ ?_
  · exact br_t rfl (pk_eq N 48 (fun _ => H _ N a2 hN) (fun z => ⟨pk_in N 48 (by omega), nm_e (nm_r (nI_1 N) (H _ (N + 1) _ (by omega)))⟩))
  · exact br_f (by decide) (H _ N a2 hN)
theorem tn_45 {post : St1 → Prop} {M N : Nat} {z : Int32} (hM : M ≤ 16) (hN : N ≤ 48) (H : ∀ M' N' a1' a2', M' ≤ 16 → N' ≤ 48 → post (nI M', nI N', cu, tu, fc, ft, 0, co, a1', a2', a3, a4, a5, a6)) :
    wL_turn_45 post z (nI M) (nI N) cu tu fc ft 0 co a1 a2 a3 a4 a5 a6 := by
  unfold wL_turn_45
  exact tn_feed hN (fun r N' a2' h => H M N' a1 a2' hM h)
theorem tn_turn {post : St1 → Prop} {M N : Nat} {x y : Int32} (hM : M ≤ 16) (hN : N ≤ 48) (H : ∀ M' N' a1' a2', M' ≤ 16 → N' ≤ 48 → post (nI M', nI N', cu, tu, fc, ft, 0, co, a1', a2', a3, a4, a5, a6)) :
    wpL_turn post (nI M, nI N, cu, tu, fc, ft, 0, co, a1, a2, a3, a4, a5, a6) x y := by
  refine nm_e ?_
  refine br_c (fun _ => br_c (fun _ => br_c (fun _ => br_c (fun _ => ?_) (fun _ => br_c (fun _ => ?_) (fun _ => ?_))) (fun _ => ?_)) (fun _ => br_c (fun _ => ?_) (fun _ => ?_))) (fun _ => ?_)
  · exact H 0 N a1 a2 (by omega) hN
  · exact H M 0 a1 a2 hM (by omega)
  · exact tn_pattern hM (fun r M' a1' h => H M' N a1' a2 h hN)
  · exact fp_feed hM hN (H M N a1 a2 hM hN) (fun a2' h _ => H M (N + M) a1 a2' hM h)
  · exact tn_45 hM hN H
  · exact tn_45 hM hN H
  · exact tn_pattern hM (fun r M' a1' h => H M' N a1' a2 h hN)
end
end
section
/-! ===== the law ===== -/
theorem ft_le {s : Nat → Nat} {c i : Nat} (h : ft_G s c i) : ∀ d x, x + d = c → s x ≤ i := by
  intro d
  induction d with
  | zero =>
    intro x hx
    have e : x = c := by omega
    rw [e, h.2.1]
    exact Nat.le_refl i
  | succ d ih =>
    intro x hx
    have h1 := h.2.2 x (by omega)
    have h2 := ih (x + 1) (by omega)
    omega
section
variable {cu tu fc ft se co x3 : Int32} {a1 a2 a3 a4 a5 a6 : Nat → Int32} {post : Int32 → Prop} {L kc ks M N C c : Nat} {xs : Nat → Int32} {s pl : Nat → Nat}
theorem yw_219 (hM : M ≤ 16) (hN : N ≤ 48) (H : post 1) : wL_law_219 post L xs (nI M) kc ks (nI M) (nI N) cu tu fc ft se co a1 a2 a3 a4 a5 a6 := by
  unfold wL_law_219
  refine fp_feed hM hN ?_ (fun a2' h1 h2 => ?_)
  · exact br_c (fun _ => H) (fun _ => br_t (by decide) H)
  · exact pk_eq M 0 (fun _ => H) (fun z => br_f (nI_pos (by omega)) (ol_overlap hM (by omega) h1 h2 (fun a5' => br_t rfl H)))
theorem yw_176 (hM : M ≤ 16) (hN : N ≤ 48) (hF : ft_F a1 M c s) (hc : c ≤ M) (hx : 0 < M → ∃ b, bd_M a1 M b ∧ x3 = nI (M - b)) (H : post 1) :
    wL_law_176 post L xs (nI M) x3 (nI C) (nI M) (nI c) kc ks (nI M) (nI N) cu tu fc ft 1 (nI C) a1 a2 a3 a4 a5 a6 := by
  unfold wL_law_176
  refine fa_occ (br_t rfl (br_t rfl ?_))
  refine ft_factor hF hM hc (Nat.le_refl c) (fun a => ?_)
  rw [if_neg (Nat.lt_irrefl c)]
  refine br_t rfl (pk_le M 0 (fun _ => yw_219 hM hN H) (fun z => ?_))
  refine bo_border hM z (fun a5' b hb => ?_)
  refine br_t ?_ (yw_219 hM hN H)
  obtain ⟨b', hb', e⟩ := hx z
  have hbb := hb.1.1
  rw [e, ← bd_uniq hb hb', pk_sub (by omega)]
  exact congrArg nI (by omega)
theorem yw_133 (hM : M ≤ 16) (hN : N ≤ 48) (hF : ft_F a1 M c s) (hG : ft_G s c M) (hc : c ≤ M) (hx : 0 < M → ∃ b, bd_M a1 M b ∧ x3 = nI (M - b)) (H : post 1) :
    ∃ n, wL_law_133 post L xs (nI M) x3 (nI C) (nI c) kc ks n 0 0 (nI M) (nI N) cu tu fc ft 1 (nI C) a1 a2 a3 a4 a5 a6 := by
  have key : ∃ n, wL_law_133 post L xs (nI M) x3 (nI C) (nI c) kc ks n (nI (s 0)) (nI 0) (nI M) (nI N) cu tu fc ft 1 (nI C) a1 a2 a3 a4 a5 a6 := by
    refine pk_loop (σ := Nat → Int32) (fun n i a => wL_law_133 post L xs (nI M) x3 (nI C) (nI c) kc ks n (nI (s i)) (nI i) (nI M) (nI N) cu tu fc ft 1 (nI C) a1 a2 a3 a4 a5 a) (fun _ _ => True) c 0 a6 (by omega) trivial ?_ ?_
    · intro n a _
      have h : wL_law_176 post L xs (nI M) x3 (nI C) (nI (s c)) (nI c) kc ks (nI M) (nI N) cu tu fc ft 1 (nI C) a1 a2 a3 a4 a5 a := by
        rw [hG.2.1]
        exact yw_176 hM hN hF hc hx H
      exact pk_le 16 c (fun _ => h) (fun _ => pk_le c c (fun _ => h) (fun z => absurd z (by omega)))
    · intro n i a hi _ hw
      refine pk_le 16 i (fun z => absurd z (by omega)) (fun _ => pk_le c i (fun z => absurd z (by omega)) (fun _ => ?_))
      refine ft_factor hF hM hc (by omega) (fun a' => ?_)
      rw [if_pos hi]
      have h1 := hG.2.2 i hi
      have h2 := ft_le hG (c - (i + 1)) (i + 1) (by omega)
      refine pk_le 1 (s (i + 1) - s i) (fun _ => nm_r (e' := nI (s (i + 1))) ?_ (nm_r (nI_1 i) (hw a' trivial))) (fun z => absurd z (by omega))
      rw [nI_add]
      exact congrArg nI (by omega)
  rw [hG.1] at key
  exact key
theorem yw_121 (hM : M ≤ 16) (hN : N ≤ 48) (hx : 0 < M → ∃ b, bd_M a1 M b ∧ x3 = nI (M - b)) (H : post 1) :
    wL_law_121 post L xs (nI M) x3 (nI C) kc ks (nI M) (nI N) cu tu fc ft 1 (nI C) a1 a2 a3 a4 a5 a6 := by
  obtain ⟨c, s, hG, hc, hF⟩ := ft_cut a1 hM
  unfold wL_law_121
  exact ft_factors hF (fun a => yw_133 hM hN hF hG hc hx H)
theorem yw_1000 (a : Nat) : nI a - (-1000) = nI (a + 1000) := by
  rw [← nI_add]
  rw [Int32.sub_eq_add_neg]
  rfl
theorem yw_64 (hM : M ≤ 16) (hN : N ≤ 48) (hQ : fa_Q a1 a2 M N C pl a4) (h0 : M = 0 → C = 0) (hx : 0 < M → ∃ b, bd_M a1 M b ∧ x3 = nI (M - b)) (H : post 1) :
    ∃ n, wL_law_64 post L xs (nI M) x3 kc ks n 0 (-1000) (if 0 < C then nI (pl 0) else -4) 0 (nI M) (nI N) cu tu fc ft 1 (nI C) a1 a2 a3 a4 a5 a6 := by
  have hC := hQ.1
  refine pk_loop (σ := Int32 × Int32) (fun n i v => wL_law_64 post L xs (nI M) x3 kc ks n (nI i) v.1 v.2 (nI i) (nI M) (nI N) cu tu fc ft 1 (nI C) a1 a2 a3 a4 a5 a6)
    (fun i v => (i = 0 → v.1 = -1000) ∧ (∀ k, i = k + 1 → v.1 = nI (pl k)) ∧ v.2 = if i < C then nI (pl i) else -4) C 0 (-1000, if 0 < C then nI (pl 0) else -4) (by omega) ⟨fun _ => rfl, fun k hk => absurd hk (by omega), rfl⟩ ?_ ?_
  · rintro n ⟨la, at'⟩ ⟨_, _, h3⟩
    dsimp only at h3
    rw [if_neg (Nat.lt_irrefl C)] at h3
    exact pk_le 49 C (fun z => absurd z (by omega)) (fun _ => br_t (show at' < 0 by rw [h3]; decide) (yw_121 hM hN hx H))
  · rintro n i ⟨la, at'⟩ hi ⟨h1, h2, h3⟩ hw
    dsimp only at h1 h2 h3
    rw [if_pos hi] at h3
    subst h3
    have hMp : 0 < M := by
      rcases Nat.eq_zero_or_pos M with y | y
      · exact absurd (h0 y) (by omega)
      · exact y
    obtain ⟨b, hb, ex⟩ := hx hMp
    obtain ⟨g1, g2⟩ := hQ.2.2.2 i hi
    have hd : ∃ d, nI (pl i) - la = nI d ∧ M - b ≤ d ∧ d < 2000 := by
      rcases Nat.eq_zero_or_pos i with y | y
      · exact ⟨pl i + 1000, by rw [h1 y]; exact yw_1000 (pl i), by omega, by omega⟩
      · obtain ⟨k, rfl⟩ : ∃ k, i = k + 1 := ⟨i - 1, by omega⟩
        have g3 := hQ.2.2.1 k (k + 1) (by omega) hi
        obtain ⟨g4, g5⟩ := hQ.2.2.2 k (by omega)
        exact ⟨pl (k + 1) - pl k, by rw [h2 k rfl]; exact pk_sub (by omega), oc_gap g5 g2 g3 hb, by omega⟩
    obtain ⟨d, d1, d2, d3⟩ := hd
    show wL_law_64 post L xs (nI M) x3 kc ks (n + 1) (nI i) la (nI (pl i)) (nI i) (nI M) (nI N) cu tu fc ft 1 (nI C) a1 a2 a3 a4 a5 a6
    refine pk_le 49 i (fun z => absurd z (by omega)) (fun _ => br_f (nI_pos (by omega)) ?_)
    refine pk_lt d (M - b) (fun z => absurd z (by omega)) (fun _ => ?_) d1 ex
    refine pk_le (pl i + M) N (fun _ => nm_r (nI_1 i) ?_) (fun z => absurd z (by omega)) (nI_add (pl i) M)
    rw [nI_1 (pl i)]
    refine nt_later hN hQ hi ?_
    refine nm_r (nI_1 i) (hw (nI (pl i), if i + 1 < C then nI (pl (i + 1)) else -4) ⟨fun z => absurd z (by omega), fun k hk => ?_, rfl⟩)
    have e : i = k := by omega
    rw [e]
theorem yw_len {post : Int32 → Prop} {mm nn : Int32} (H : post mm) : wpX_patternLength post (mm, nn, cu, tu, fc, ft, se, co, a1, a2, a3, a4, a5, a6) := H
theorem yw_10 (hL : L ≤ 260) (H : post 1) : ∃ n, wL_law_10 post L xs kc ks n 0 0 0 cu tu fc ft 0 co a1 a2 a3 a4 a5 a6 := by
  refine pk_loop (σ := Nat × Nat × (Nat → Int32) × (Nat → Int32)) (fun n i v => wL_law_10 post L xs kc ks n (nI (2 * i)) (nI v.1) (nI v.2.1) cu tu fc ft 0 co v.2.2.1 v.2.2.2 a3 a4 a5 a6)
    (fun _ v => v.1 ≤ 16 ∧ v.2.1 ≤ 48) (L / 2) 0 (0, 0, a1, a2) (by omega) ⟨Nat.zero_le 16, Nat.zero_le 48⟩ ?_ ?_
  · rintro n ⟨M, N, p, t⟩ ⟨hM, hN⟩
    dsimp only at hM hN
    show wL_law_10 post L xs kc ks (n + 1) (nI (2 * (L / 2))) (nI M) (nI N) cu tu fc ft 0 co p t a3 a4 a5 a6
    refine pk_le L (2 * (L / 2) + 1) (fun _ => ?_) (fun z => absurd z (by omega)) rfl (nI_1 _)
    refine yw_len ?_
    refine bo_period hM (fun z => ?_) (fun z a5' b hb => ?_)
    · refine nt_first hM hN (fun C pl cu' tu' fc' ft' a3' a4' hQ h0 => ?_)
      exact yw_64 hM hN hQ h0 (fun y => absurd y (by omega)) H
    · refine nt_first hM hN (fun C pl cu' tu' fc' ft' a3' a4' hQ h0 => ?_)
      exact yw_64 hM hN hQ h0 (fun _ => ⟨b, hb, rfl⟩) H
  · rintro n i ⟨M, N, p, t⟩ hi ⟨hM, hN⟩ hw
    dsimp only at hM hN
    show wL_law_10 post L xs kc ks (n + 1) (nI (2 * i)) (nI M) (nI N) cu tu fc ft 0 co p t a3 a4 a5 a6
    refine pk_le L (2 * i + 1) (fun z => absurd z (by omega)) (fun _ => ⟨pk_in (2 * i) L (by omega), pk_in (2 * i + 1) L (by omega) (nI_1 _), ?_⟩) rfl (nI_1 _)
    refine tn_turn hM hN (fun M' N' p' t' h1 h2 => ?_)
    refine nm_r (e' := nI (2 * (i + 1))) ?_ (hw (M', N', p', t') ⟨h1, h2⟩)
    exact nI_add (2 * i) 2
end
theorem i_vc (xs : Nat → Int32) (L : Nat) (hL : L ≤ 260) : wpL_law (fun r => r = 1) L xs :=
  ⟨6, 161, by decide, by decide, by decide, by decide, by decide, by decide, by decide, by decide, by decide, by decide, by decide, by decide, by decide, by decide, yw_10 hL rfl⟩
end
