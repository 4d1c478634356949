section
/-! rows of the kit (pk_), pasted; then small rows of my own -/
theorem pk_us {f : Nat → Int32} {k : Nat} {x : Int32} : upd f k x k = x := if_pos rfl
theorem pk_un {f : Nat → Int32} {k j : Nat} {x : Int32} (h : j ≠ k) : upd f k x j = f j := if_neg h
theorem pk_sub {a b : Nat} (h : b ≤ a) : nI a - nI b = nI (a - b) := by
  obtain ⟨c, rfl⟩ : ∃ c, a = c + b := ⟨a - b, by omega⟩
  rw [← nI_add, Int32.add_sub_cancel, Nat.add_sub_cancel]
theorem pk_m1 (n : Nat) : nI (n + 1) + (-1) = nI n := by
  rw [← nI_1, Int32.add_assoc, show (1 : Int32) + (-1) = 0 from rfl, Int32.add_zero]
theorem pk_mul (a b : Nat) : nI a * nI b = nI (a * b) := (Int32.ofNat_mul a b).symm
theorem pk_div {a d : Nat} (ha : a < 2 ^ 31) (h0 : 0 < d) (hd : d < 2 ^ 31) : nI a / nI d = nI (a / d) := by
  apply Int32.toInt_inj.mp
  rw [lg_idiv_nonneg (by rw [nI_toInt ha]; omega) (by rw [nI_toInt hd]; omega), nI_toInt ha, nI_toInt hd, nI_toInt (Nat.lt_of_le_of_lt (Nat.div_le_self a d) ha)]
  first | rfl | exact (Int.natCast_ediv _ _).symm
theorem pk_rem {a d : Nat} (ha : a < 2 ^ 31) (h0 : 0 < d) (hd : d < 2 ^ 31) : nI a - nI a / nI d * nI d = nI (a % d) := by
  rw [pk_div ha h0 hd, pk_mul, pk_sub (Nat.div_mul_le_self a d)]
  exact congrArg nI (by have := Nat.div_add_mod' a d; omega)
theorem pk_sub_toInt {a b : Nat} (ha : a < 2 ^ 30) (hb : b < 2 ^ 30) : (nI a - nI b).toInt = (a : Int) - b := by
  rw [Int32.toInt_sub, nI_toInt (by omega), nI_toInt (by omega)]
  exact Int.bmod_eq_of_le (by omega) (by omega)
theorem pk_sneg {a b : Nat} (hb : b < 2 ^ 30) (h : a < b) : nI a - nI b < 0 := by
  rw [Int32.lt_iff_toInt_lt, pk_sub_toInt (by omega) hb, show (0 : Int32).toInt = 0 from by decide]
  omega
theorem pk_ix (x : Int32) {n : Nat} (hn : n < 2 ^ 31) : x < 0 ∨ nI n ≤ x ∨ ∃ j : Nat, j < n ∧ x = nI j := by
  by_cases h : x < 0
  · exact Or.inl h
  · obtain ⟨j, hj, rfl⟩ := nI_of h
    by_cases h2 : j < n
    · exact Or.inr (Or.inr ⟨j, h2, rfl⟩)
    · exact Or.inr (Or.inl (nI_le (by omega) hj))
theorem pk_le {x y : Int32} {A B : Prop} (a b : Nat) (f : a ≤ b → A) (g : b < a → B) (hx : x = nI a := by rfl) (hy : y = nI b := by rfl) (ha : a < 2 ^ 31 := by omega) (hb : b < 2 ^ 31 := by omega) : (x ≤ y → A) ∧ (¬ x ≤ y → B) := by
  subst hx hy
  rw [nI_leI ha hb]
  exact ⟨f, fun z => g (by omega)⟩
theorem pk_lt {x y : Int32} {A B : Prop} (a b : Nat) (f : a < b → A) (g : b ≤ a → B) (hx : x = nI a := by rfl) (hy : y = nI b := by rfl) (ha : a < 2 ^ 31 := by omega) (hb : b < 2 ^ 31 := by omega) : (x < y → A) ∧ (¬ x < y → B) := by
  subst hx hy
  rw [nI_ltI ha hb]
  exact ⟨f, fun z => g (by omega)⟩
theorem pk_eq {x y : Int32} {A B : Prop} (a b : Nat) (f : a = b → A) (g : a ≠ b → B) (hx : x = nI a := by rfl) (hy : y = nI b := by rfl) (ha : a < 2 ^ 31 := by omega) (hb : b < 2 ^ 31 := by omega) : (x = y → A) ∧ (¬ x = y → B) := by
  subst hx hy
  rw [nI_eq ha hb]
  exact ⟨f, g⟩
theorem pk_in {x : Int32} (n N : Nat) (h : n < N) (hx : x = nI n := by rfl) (hN : N < 2 ^ 31 := by omega) : vp_in x N := by
  subst hx
  exact vp_in_nI h hN
theorem pk_cl {x : Int32} (n : Nat) (hx : x = nI n := by rfl) (h : n < 2 ^ 31 := by omega) : x.toNatClampNeg = n := by
  subst hx
  exact nI_clamp h
theorem tw_add1 {a : Nat} : nI a + 1 = nI (a + 1) := nI_1 a
theorem tw_sub1 {a : Nat} (h : 0 < a) : nI a - 1 = nI (a - 1) := pk_sub (b := 1) h
theorem tw_dec1 (a : Nat) : nI a + (-1) = nI a - 1 := (Int32.sub_eq_add_neg (nI a) 1).symm
theorem tw_p1lt {c k : Nat} (hc : c < 2 ^ 30) (hk : k < 2 ^ 30) : nI c - 1 < nI k ↔ c ≤ k := by
  have e : (nI c - 1).toInt = (c : Int) - (1 : Nat) := pk_sub_toInt (b := 1) hc (by omega)
  rw [Int32.lt_iff_toInt_lt, e, nI_toInt (by omega)]
  omega
theorem tw_n1 : (-1 : Int32) < 0 := by decide
theorem tw_n1' : ¬ (0 : Int32) ≤ -1 := by decide
theorem tw_10 : ¬ (1 : Int32) = 0 := by decide
theorem tw_mod {s k m : Nat} (hs : s < m) (hk : k < m) : (s + k) % m = if s + k < m then s + k else s + k - m := by
  split
  · exact Nat.mod_eq_of_lt (by assumption)
  · rw [Nat.mod_eq_sub_mod (by omega)]
    exact Nat.mod_eq_of_lt (by omega)
end
section
/-! Lyndon runs (Duval), greatest ends, the strong critical factorisation: pure, over letters in Int -/
/-- first real difference of the ends a and b inside e: a's letter is the smaller -/
def tw_D (w : Nat → Int) (a b e : Nat) : Prop := ∃ k, b + k < e ∧ (∀ t, t < k → w (a + t) = w (b + t)) ∧ w (a + k) < w (b + k)
def tw_Lyn (w : Nat → Int) (s e : Nat) : Prop := s < e ∧ ∀ i, s < i → i < e → tw_D w s i e
def tw_Pe (w : Nat → Int) (b p e : Nat) : Prop := ∀ t, b ≤ t → t + p < e → w t = w (t + p)
/-- w[b..e) is a beginning of z z z .., z = w[b..b+p) a Lyndon word -/
def tw_LR (w : Nat → Int) (b p e : Nat) : Prop := 0 < p ∧ b + p ≤ e ∧ tw_Lyn w b (b + p) ∧ tw_Pe w b p e
theorem tw_per {w : Nat → Int} {b p e : Nat} (h : tw_Pe w b p e) : ∀ c r, b ≤ r → r + c * p < e → w (r + c * p) = w r := by
  intro c
  induction c with
  | zero => intro r _ _; simp
  | succ c ih =>
    intro r hr hh
    have e1 : r + (c + 1) * p = r + c * p + p := by rw [Nat.add_mul, Nat.one_mul]; omega
    rw [e1] at hh ⊢
    rw [← h (r + c * p) (by omega) hh]
    exact ih r hr (by omega)
theorem tw_per' {w : Nat → Int} {b p e : Nat} (h : tw_Pe w b p e) (c x y : Nat) (hxy : x = y + c * p) (hy : b ≤ y) (hx : x < e) : w x = w y := by
  subst hxy
  exact tw_per h c y hy hx
theorem tw_dec {p : Nat} (hp : 0 < p) (x : Nat) : ∃ c r, r < p ∧ x = r + c * p := by
  refine ⟨x / p, x % p, Nat.mod_lt _ hp, ?_⟩
  have := Nat.mod_add_div x p
  rw [Nat.mul_comm p] at this
  omega
theorem tw_c1 (c p : Nat) : (c + 1) * p = c * p + p := by rw [Nat.add_mul, Nat.one_mul]
theorem tw_step_eq {w : Nat → Int} {b p e : Nat} (h : tw_LR w b p e) (he : w (e - p) = w e) : tw_LR w b p (e + 1) := by
  obtain ⟨h0, h1, h2, h3⟩ := h
  refine ⟨h0, by omega, h2, fun t ht hh => ?_⟩
  by_cases hx : t + p < e
  · exact h3 t ht hx
  · have e1 : t + p = e := by omega
    have e2 : e - p = t := by omega
    rw [e1, ← he, e2]
theorem tw_step_gt {w : Nat → Int} {b p e : Nat} (h : tw_LR w b p e) (he : w (e - p) < w e) : tw_LR w b (e + 1 - b) (e + 1) := by
  obtain ⟨h0, h1, h2, h3⟩ := h
  have hb : b + (e + 1 - b) = e + 1 := by omega
  refine ⟨by omega, by omega, ?_, fun t ht hh => absurd hh (by omega)⟩
  rw [hb]
  refine ⟨by omega, fun i hi1 hi2 => ?_⟩
  obtain ⟨c, r, hr, hx⟩ := tw_dec h0 (i - b)
  have hi : i = b + r + c * p := by omega
  by_cases hr0 : r = 0
  · subst hr0
    obtain ⟨c', rfl⟩ : ∃ c', c = c' + 1 := by
      cases c with
      | zero => rw [Nat.zero_mul] at hi; omega
      | succ c' => exact ⟨c', rfl⟩
    have e1 := tw_c1 c' p
    refine ⟨e - i, by omega, fun t ht => ?_, ?_⟩
    · exact (tw_per' h3 (c' + 1) (i + t) (b + t) (by omega) (by omega) (by omega)).symm
    · have q := tw_per' h3 c' (e - p) (b + (e - i)) (by omega) (by omega) (by omega)
      rw [show i + (e - i) = e by omega, ← q]
      exact he
  · obtain ⟨k, k1, k2, k3⟩ := h2.2 (b + r) (by omega) (by omega)
    by_cases hk : i + k < e
    · refine ⟨k, by omega, fun t ht => ?_, ?_⟩
      · rw [k2 t ht]
        exact (tw_per' h3 c (i + t) (b + r + t) (by omega) (by omega) (by omega)).symm
      · rw [tw_per' h3 c (i + k) (b + r + k) (by omega) (by omega) (by omega)]
        exact k3
    · obtain ⟨c', rfl⟩ : ∃ c', c = c' + 1 := by
        cases c with
        | zero => rw [Nat.zero_mul] at hi; omega
        | succ c' => exact ⟨c', rfl⟩
      have e1 := tw_c1 c' p
      have q := tw_per' h3 c' (e - p) (b + r + (e - i)) (by omega) (by omega) (by omega)
      rw [q] at he
      refine ⟨e - i, by omega, fun t ht => ?_, ?_⟩
      · rw [k2 t (by omega)]
        exact (tw_per' h3 (c' + 1) (i + t) (b + r + t) (by omega) (by omega) (by omega)).symm
      · rw [show i + (e - i) = e by omega]
        by_cases hk2 : e - i < k
        · rw [k2 _ hk2]; exact he
        · have hk3 : e - i = k := by omega
          rw [hk3] at he ⊢
          exact Int.lt_trans k3 he
theorem tw_step_lt {w : Nat → Int} {b p e b' c : Nat} (h : tw_LR w b p e) (hc : b' = b + (c + 1) * p) (h1e : b' ≤ e) (h2e : e < b' + p) (he : w e < w (e - p)) :
    ∀ i, b ≤ i → i < b' → ∃ k, b' + k ≤ e ∧ (∀ t, t < k → w (b' + t) = w (i + t)) ∧ w (b' + k) < w (i + k) := by
  obtain ⟨h0, h1, h2, h3⟩ := h
  intro i hi1 hi2
  have e1 := tw_c1 c p
  obtain ⟨d, r, hr, hx⟩ := tw_dec h0 (i - b)
  have hi : i = b + r + d * p := by omega
  have q := tw_per' h3 c (e - p) (b + (e - b')) (by omega) (by omega) (by omega)
  rw [q] at he
  by_cases hr0 : r = 0
  · subst hr0
    refine ⟨e - b', by omega, fun t ht => ?_, ?_⟩
    · rw [tw_per' h3 (c + 1) (b' + t) (b + t) (by omega) (by omega) (by omega), tw_per' h3 d (i + t) (b + t) (by omega) (by omega) (by omega)]
    · rw [show b' + (e - b') = e by omega, tw_per' h3 d (i + (e - b')) (b + (e - b')) (by omega) (by omega) (by omega)]
      exact he
  · obtain ⟨k, k1, k2, k3⟩ := h2.2 (b + r) (by omega) (by omega)
    by_cases hk : b' + k < e
    · refine ⟨k, by omega, fun t ht => ?_, ?_⟩
      · rw [tw_per' h3 (c + 1) (b' + t) (b + t) (by omega) (by omega) (by omega), tw_per' h3 d (i + t) (b + r + t) (by omega) (by omega) (by omega)]
        exact k2 t ht
      · rw [tw_per' h3 (c + 1) (b' + k) (b + k) (by omega) (by omega) (by omega), tw_per' h3 d (i + k) (b + r + k) (by omega) (by omega) (by omega)]
        exact k3
    · refine ⟨e - b', by omega, fun t ht => ?_, ?_⟩
      · rw [tw_per' h3 (c + 1) (b' + t) (b + t) (by omega) (by omega) (by omega), tw_per' h3 d (i + t) (b + r + t) (by omega) (by omega) (by omega)]
        exact k2 t (by omega)
      · rw [show b' + (e - b') = e by omega, tw_per' h3 d (i + (e - b')) (b + r + (e - b')) (by omega) (by omega) (by omega)]
        by_cases hk2 : e - b' < k
        · rw [← k2 _ hk2]; exact he
        · have hk3 : e - b' = k := by omega
          rw [hk3] at he ⊢
          exact Int.lt_trans he k3
theorem tw_LR_1 (w : Nat → Int) (b : Nat) : tw_LR w b 1 (b + 1) :=
  ⟨by omega, by omega, ⟨by omega, fun i h1 h2 => absurd h2 (by omega)⟩, fun t ht hh => absurd hh (by omega)⟩
theorem tw_LR_sh {w : Nat → Int} {b p e : Nat} (h : tw_LR w b p e) (h2 : b + p + p ≤ e) : tw_LR w (b + p) p e := by
  obtain ⟨h0, h1, hl, h3⟩ := h
  refine ⟨h0, h2, ⟨by omega, fun i hi1 hi2 => ?_⟩, fun t ht hh => h3 t (by omega) hh⟩
  obtain ⟨k, k1, k2, k3⟩ := hl.2 (i - p) (by omega) (by omega)
  refine ⟨k, by omega, fun t ht => ?_, ?_⟩
  · have a1 := h3 (b + t) (by omega) (by omega)
    have a2 := h3 (i - p + t) (by omega) (by omega)
    have a3 := k2 t ht
    rw [show b + t + p = b + p + t by omega] at a1
    rw [show i - p + t + p = i + t by omega] at a2
    rw [← a1, ← a2]; exact a3
  · have a1 := h3 (b + k) (by omega) (by omega)
    have a2 := h3 (i - p + k) (by omega) (by omega)
    rw [show b + k + p = b + p + k by omega] at a1
    rw [show i - p + k + p = i + k by omega] at a2
    rw [← a1, ← a2]; exact k3
/-! the greatest end -/
def tw_H (w : Nat → Int) (b m : Nat) : Prop := ∀ i, i < b → ∃ k, b + k < m ∧ (∀ t, t < k → w (b + t) = w (i + t)) ∧ w (b + k) < w (i + k)
def tw_L (w : Nat → Int) (b m u : Nat) : Prop := ∀ i, b < i → i < u → ∀ k, i + k < m → (∀ t, t < k → w (b + t) = w (i + t)) → w (b + k) ≤ w (i + k)
def tw_MS (w : Nat → Int) (b m : Nat) : Prop := b < m ∧ tw_L w b m m ∧ tw_H w b m
theorem tw_MS_uq {w : Nat → Int} {b c m : Nat} (h : tw_MS w b m) (g : tw_MS w c m) : b = c := by
  rcases Nat.lt_trichotomy b c with hl | he | hl
  · obtain ⟨k, k1, k2, k3⟩ := g.2.2 b hl
    have := h.2.1 c hl g.1 k k1 (fun t ht => (k2 t ht).symm)
    omega
  · exact he
  · obtain ⟨k, k1, k2, k3⟩ := h.2.2 c hl
    have := g.2.1 b hl h.1 k k1 (fun t ht => (k2 t ht).symm)
    omega
def tw_FI (w : Nat → Int) (m b o k p : Nat) : Prop := tw_LR w b p (o + k) ∧ (∃ c, o = b + (c + 1) * p) ∧ k < p ∧ o + k ≤ m ∧ tw_H w b m
theorem tw_fi_p {w : Nat → Int} {m b o k p : Nat} (h : tw_FI w m b o k p) : w (o + k - p) = w (b + k) := by
  obtain ⟨h1, ⟨c, h2⟩, h3, h4, h5⟩ := h
  have e1 := tw_c1 c p
  exact tw_per' h1.2.2.2 c (o + k - p) (b + k) (by omega) (by omega) (by omega)
theorem tw_fi_bo {w : Nat → Int} {m b o k p : Nat} (h : tw_FI w m b o k p) : b + p ≤ o := by
  obtain ⟨h1, ⟨c, h2⟩, h3, h4, h5⟩ := h
  have e1 := tw_c1 c p
  omega
theorem tw_fi_0 {w : Nat → Int} {m : Nat} (h : 0 < m) : tw_FI w m 0 1 0 1 :=
  ⟨tw_LR_1 w 0, ⟨0, by omega⟩, by omega, by omega, fun i hi => absurd hi (by omega)⟩
theorem tw_fi_e1 {w : Nat → Int} {m b o k p : Nat} (h : tw_FI w m b o k p) (hm : o + k < m) (he : w (o + k) = w (b + k)) (hk : k + 1 = p) : tw_FI w m b (o + p) 0 p := by
  have q := tw_fi_p h
  obtain ⟨h1, ⟨c, h2⟩, h3, h4, h5⟩ := h
  have e1 := tw_c1 (c + 1) p
  refine ⟨?_, ⟨c + 1, by omega⟩, by omega, by omega, h5⟩
  have := tw_step_eq h1 (q.trans he.symm)
  rw [show o + p + 0 = o + k + 1 by omega]
  exact this
theorem tw_fi_e2 {w : Nat → Int} {m b o k p : Nat} (h : tw_FI w m b o k p) (hm : o + k < m) (he : w (o + k) = w (b + k)) (hk : k + 1 ≠ p) : tw_FI w m b o (k + 1) p := by
  have q := tw_fi_p h
  obtain ⟨h1, h2, h3, h4, h5⟩ := h
  exact ⟨tw_step_eq h1 (q.trans he.symm), h2, by omega, by omega, h5⟩
theorem tw_fi_g {w : Nat → Int} {m b o k p : Nat} (h : tw_FI w m b o k p) (hm : o + k < m) (he : w (b + k) < w (o + k)) : tw_FI w m b (o + k + 1) 0 (o + k + 1 - b) := by
  have q := tw_fi_p h
  have q2 := tw_fi_bo h
  obtain ⟨h1, h2, h3, h4, h5⟩ := h
  refine ⟨tw_step_gt h1 (by rw [q]; exact he), ⟨0, by omega⟩, by omega, by omega, h5⟩
theorem tw_fi_l {w : Nat → Int} {m b o k p : Nat} (h : tw_FI w m b o k p) (hm : o + k < m) (he : w (o + k) < w (b + k)) : tw_FI w m o (o + 1) 0 1 := by
  have q := tw_fi_p h
  have q2 := tw_fi_bo h
  obtain ⟨h1, ⟨c, h2⟩, h3, h4, h5⟩ := h
  have S := tw_step_lt h1 h2 (by omega) (by omega) (by rw [q]; exact he)
  refine ⟨tw_LR_1 w o, ⟨0, by omega⟩, by omega, by omega, fun i hi => ?_⟩
  by_cases hb : b ≤ i
  · obtain ⟨j, j1, j2, j3⟩ := S i hb hi
    exact ⟨j, by omega, j2, j3⟩
  · obtain ⟨j, j1, j2, j3⟩ := S b (by omega) (by have := h1.1; omega)
    obtain ⟨l, l1, l2, l3⟩ := h5 i (by omega)
    by_cases hjl : j < l
    · exact ⟨j, by omega, fun t ht => (j2 t ht).trans (l2 t (by omega)), by rw [← l2 j hjl]; exact j3⟩
    · refine ⟨l, by omega, fun t ht => (j2 t (by omega)).trans (l2 t ht), ?_⟩
      by_cases hlj : l < j
      · rw [j2 l hlj]; exact l3
      · have : l = j := by omega
        subst this
        exact Int.lt_trans j3 l3
theorem tw_fi_end {w : Nat → Int} {m b o k p : Nat} (h : tw_FI w m b o k p) (hm : m ≤ o + k) : tw_MS w b m ∧ tw_LR w b p m := by
  have q2 := tw_fi_bo h
  obtain ⟨h1, h2, h3, h4, h5⟩ := h
  have hmm : o + k = m := by omega
  rw [hmm] at h1
  refine ⟨⟨by have := h1.1; omega, fun i hi hi2 j hj he => ?_, h5⟩, h1⟩
  obtain ⟨g0, g1, g2, g3⟩ := h1
  obtain ⟨d, r, hr, hx⟩ := tw_dec g0 (i - b)
  have hir : i = b + r + d * p := by omega
  by_cases hr0 : r = 0
  · subst hr0
    rw [tw_per' g3 d (i + j) (b + j) (by omega) (by omega) (by omega)]
    exact Int.le_refl _
  · obtain ⟨l, l1, l2, l3⟩ := g2.2 (b + r) (by omega) (by omega)
    rcases Nat.lt_trichotomy j l with hl | hl | hl
    · rw [tw_per' g3 d (i + j) (b + r + j) (by omega) (by omega) (by omega), l2 j hl]
      exact Int.le_refl _
    · subst hl
      rw [tw_per' g3 d (i + j) (b + r + j) (by omega) (by omega) (by omega)]
      exact Int.le_of_lt l3
    · have := he l hl
      rw [tw_per' g3 d (i + l) (b + r + l) (by omega) (by omega) (by omega)] at this
      omega
/-! the greatest end by trying every place -/
theorem tw_first (f g : Nat → Int) : ∀ k, (∀ t, t < k → f t = g t) ∨ ∃ s, s < k ∧ (∀ t, t < s → f t = g t) ∧ f s ≠ g s := by
  intro k
  induction k with
  | zero => exact Or.inl (fun t ht => absurd ht (by omega))
  | succ k ih =>
    rcases ih with h | ⟨s, s1, s2, s3⟩
    · by_cases hk : f k = g k
      · left
        intro t ht
        by_cases e : t = k
        · rw [e]; exact hk
        · exact h t (by omega)
      · exact Or.inr ⟨k, by omega, h, hk⟩
    · exact Or.inr ⟨s, by omega, s2, s3⟩
theorem tw_sc_n {w : Nat → Int} {b m i : Nat} (h : tw_L w b m i) (hn : ∀ k, i + k < m → (∀ t, t < k → w (b + t) = w (i + t)) → w (b + k) ≤ w (i + k)) : tw_L w b m (i + 1) := by
  intro j hj1 hj2
  by_cases e : j = i
  · subst e; exact hn
  · exact h j hj1 (by omega)
theorem tw_sc_y {w : Nat → Int} {b m i k : Nat} (hb : b < i) (h : tw_L w b m i) (g : tw_H w b m) (k1 : i + k < m) (k2 : ∀ t, t < k → w (b + t) = w (i + t)) (k3 : w (i + k) < w (b + k)) : tw_L w i m (i + 1) ∧ tw_H w i m := by
  refine ⟨fun j hj1 hj2 => absurd hj2 (by omega), fun j hj => ?_⟩
  rcases Nat.lt_trichotomy j b with hl | hl | hl
  · obtain ⟨l, l1, l2, l3⟩ := g j hl
    by_cases hkl : k < l
    · exact ⟨k, k1, fun t ht => (k2 t ht).symm.trans (l2 t (by omega)), by rw [← l2 k hkl]; exact k3⟩
    · refine ⟨l, by omega, fun t ht => (k2 t (by omega)).symm.trans (l2 t ht), ?_⟩
      by_cases hlk : l < k
      · rw [← k2 l hlk]; exact l3
      · have : l = k := by omega
        subst this
        exact Int.lt_trans k3 l3
  · subst hl
    exact ⟨k, k1, fun t ht => (k2 t ht).symm, k3⟩
  · rcases tw_first (fun t => w (b + t)) (fun t => w (j + t)) k with hf | ⟨s, s1, s2, s3⟩
    · have := h j hl hj k (by omega) hf
      exact ⟨k, k1, fun t ht => (k2 t ht).symm.trans (hf t ht), by omega⟩
    · have := h j hl hj s (by omega) s2
      have s3' : w (b + s) ≠ w (j + s) := s3
      have e := k2 s s1
      exact ⟨s, by omega, fun t ht => (k2 t (by omega)).symm.trans (s2 t ht), by omega⟩
/-! the strong critical factorisation -/
theorem tw_CF {w : Nat → Int} {b c m r : Nat} (h : tw_MS w b m) (g : tw_MS (fun i => - w i) c m) (hc : c ≤ b) (hr : 0 < r) (hl : ∀ t, t < b → b ≤ t + r → t + r < m → w t = w (t + r)) : b < r ∧ ∀ t, t + r < m → w t = w (t + r) := by
  have hbr : b < r := by
    apply Decidable.byContradiction
    intro hn
    obtain ⟨k, k1, k2, k3⟩ := h.2.2 (b - r) (by omega)
    by_cases hk : k < r
    · have := hl (b - r + k) (by omega) (by omega) (by omega)
      rw [show b - r + k + r = b + k by omega] at this
      omega
    · have := h.2.1 (b + r) (by omega) (by omega) (k - r) (by omega) (fun t ht => by
        have := k2 (r + t) (by omega)
        rw [show b - r + (r + t) = b + t by omega, show b + (r + t) = b + r + t by omega] at this
        exact this.symm)
      rw [show b + r + (k - r) = b + k by omega] at this
      rw [show b - r + k = b + (k - r) by omega] at k3
      omega
  refine ⟨hbr, ?_⟩
  have key : ∀ t, (∀ s, s < t → s + r < m → w s = w (s + r)) → t + r < m → w t = w (t + r) := by
    intro t ih ht
    by_cases htb : t < b
    · exact hl t htb (by omega) ht
    · have a1 := h.2.1 (b + r) (by omega) (by omega) (t - b) (by omega) (fun s hs => by
        have := ih (b + s) (by omega) (by omega)
        rw [show b + s + r = b + r + s by omega] at this
        exact this)
      have a2 := g.2.1 (c + r) (by omega) (by omega) (t - c) (by omega) (fun s hs => by
        have := ih (c + s) (by omega) (by omega)
        rw [show c + s + r = c + r + s by omega] at this
        show - w (c + s) = - w (c + r + s)
        rw [this])
      have a2' : - w (c + (t - c)) ≤ - w (c + r + (t - c)) := a2
      rw [show b + (t - b) = t by omega, show b + r + (t - b) = t + r by omega] at a1
      rw [show c + (t - c) = t by omega, show c + r + (t - c) = t + r by omega] at a2'
      omega
  intro t
  induction t using Nat.strongRecOn with
  | ind t ih => exact fun ht => key t (fun s hs hsr => ih s hs hsr) ht
end
section
/-! the cut of a word, and what a search may skip: pure -/
def tw_K (o : Int32) (x : Int32) : Int := if o = 0 then - x.toInt else x.toInt
theorem tw_K_eq {o a b : Int32} : tw_K o a = tw_K o b ↔ a = b := by
  unfold tw_K
  split
  · rw [← Int32.toInt_inj]; omega
  · rw [← Int32.toInt_inj]
theorem tw_K_neg0 (x : Int32) : - tw_K 0 x = tw_K 1 x := by
  unfold tw_K
  rw [if_pos rfl, if_neg (by decide)]
  omega
theorem tw_K_neg1 (x : Int32) : - tw_K 1 x = tw_K 0 x := by
  unfold tw_K
  rw [if_pos rfl, if_neg (by decide)]
def tw_Cut (f : Nat → Int32) (m cut turn : Nat) : Prop :=
  cut < m ∧ 0 < turn ∧ cut + turn ≤ m ∧
  (∀ r, 0 < r → (∀ t, t < cut → cut ≤ t + r → t + r < m → f t = f (t + r)) → cut < r ∧ ∀ t, t + r < m → f t = f (t + r)) ∧
  (∀ d, 0 < d → (∀ t, t + d < m → f t = f (t + d)) → turn ≤ d) ∧
  ((∃ i, i < cut ∧ f i ≠ f (i + turn)) → ∀ d, 0 < d → (∀ t, t + d < m → f t = f (t + d)) → cut < d ∧ m - cut < d)
theorem tw_cut_of {f : Nat → Int32} {w : Nat → Int} (hw : ∀ i j, w i = w j ↔ f i = f j) {b p c m : Nat} (h : tw_MS w b m) (l : tw_LR w b p m) (g : tw_MS (fun i => - w i) c m) (hc : c ≤ b) : tw_Cut f m b p := by
  have C : ∀ r, 0 < r → (∀ t, t < b → b ≤ t + r → t + r < m → f t = f (t + r)) → b < r ∧ ∀ t, t + r < m → f t = f (t + r) := by
    intro r hr hl
    obtain ⟨a1, a2⟩ := tw_CF h g hc hr (fun t h1 h2 h3 => (hw _ _).mpr (hl t h1 h2 h3))
    exact ⟨a1, fun t ht => (hw _ _).mp (a2 t ht)⟩
  have M : ∀ d, 0 < d → (∀ t, t + d < m → f t = f (t + d)) → p ≤ d := by
    intro d hd hp
    apply Decidable.byContradiction
    intro hn
    obtain ⟨k, k1, k2, k3⟩ := l.2.2.1.2 (b + d) (by omega) (by omega)
    have := (hw _ _).mpr (hp (b + k) (by have := l.2.1; omega))
    rw [show b + k + d = b + d + k by omega] at this
    omega
  refine ⟨h.1, l.1, l.2.1, C, M, ?_⟩
  rintro ⟨i, hi, hne⟩ d hd hp
  have hbd := (C d hd (fun t _ _ h3 => hp t h3)).1
  refine ⟨hbd, ?_⟩
  apply Decidable.byContradiction
  intro hn
  have l1 := l.1
  have l2 := l.2.1
  obtain ⟨q, r, hr, hx⟩ := tw_dec l1 d
  by_cases hr0 : r = 0
  · subst hr0
    obtain ⟨q', rfl⟩ : ∃ q', q = q' + 1 := by
      cases q with
      | zero => rw [Nat.zero_mul] at hx; omega
      | succ q' => exact ⟨q', rfl⟩
    have e1 := tw_c1 q' p
    have := (C p l1 (fun t h1 h2 h3 => by
      rw [hp t (by omega)]
      exact (hw _ _).mp (tw_per' l.2.2.2 q' (t + d) (t + p) (by omega) (by omega) (by omega)))).2 i (by omega)
    exact hne this
  · have P := (C r (by omega) (fun t h1 h2 h3 => by
      rw [hp t (by omega)]
      exact (hw _ _).mp (tw_per' l.2.2.2 q (t + d) (t + r) (by omega) (by omega) (by omega)))).2
    have := M r (by omega) P
    omega
/-- the word f stands at i of the text -/
def tw_O (f T : Nat → Int32) (m n i : Nat) : Prop := 0 < m ∧ i + m ≤ n ∧ ∀ k, k < m → T (i + k) = f k
theorem tw_O_cg {f g T : Nat → Int32} {m n i : Nat} (h : ∀ k, k < m → f k = g k) (o : tw_O f T m n i) : tw_O g T m n i :=
  ⟨o.1, o.2.1, fun k hk => (o.2.2 k hk).trans (h k hk)⟩
theorem tw_O_lt {f T : Nat → Int32} {m n i : Nat} (o : tw_O f T m n i) : i < n := by
  have h1 := o.1
  have h2 := o.2.1
  omega
/-- an occurrence d further on, where the right part (up to i) fits at j, makes d a repetition at the cut, so a period -/
theorem tw_lrep {f T : Nat → Int32} {m n cut turn j d i : Nat} (C : tw_Cut f m cut turn) (hd : 0 < d) (hR : ∀ t, cut ≤ t → t < i → f t = T (t + j)) (hi : cut + d ≤ i ∨ i = m) (o : tw_O f T m n (j + d)) : cut < d ∧ ∀ t, t + d < m → f t = f (t + d) := by
  refine C.2.2.2.1 d hd (fun t h1 h2 h3 => ?_)
  rw [hR (t + d) h2 (by omega), ← o.2.2 t (by omega)]
  congr 1
  omega
theorem tw_S1 {f T : Nat → Int32} {m n cut turn j i : Nat} (C : tw_Cut f m cut turn) (hR : ∀ t, cut ≤ t → t < i → f t = T (t + j)) (hc : cut ≤ i) (hi : i < m) (hne : f i ≠ T (i + j)) :
    ∀ x, j ≤ x → x < j + i - cut + 1 → ¬ tw_O f T m n x := by
  intro x hx1 hx2 o
  by_cases e : x = j
  · subst e
    apply hne
    rw [← o.2.2 i hi, Nat.add_comm]
  · obtain ⟨d, rfl⟩ : ∃ d, x = j + d := ⟨x - j, by omega⟩
    obtain ⟨h1, h2⟩ := tw_lrep C (by omega) hR (Or.inl (by omega)) o
    apply hne
    have a1 := h2 (i - d) (by omega)
    rw [show i - d + d = i by omega] at a1
    rw [← a1, ← o.2.2 (i - d) (by omega)]
    congr 1
    omega
theorem tw_S2 {f T : Nat → Int32} {m n cut turn j : Nat} (C : tw_Cut f m cut turn) (hR : ∀ t, cut ≤ t → t < m → f t = T (t + j)) (hne : ∃ i, i < cut ∧ f i ≠ T (i + j)) (hp : ∀ i, i < cut → f i = f (i + turn)) :
    (∀ x, j ≤ x → x < j + turn → ¬ tw_O f T m n x) ∧ ∀ t, t < m - turn → T (j + turn + t) = f t := by
  obtain ⟨c1, c2, c3, c4, c5, c6⟩ := C
  obtain ⟨p1, p2⟩ := c4 turn c2 (fun t h1 _ _ => hp t h1)
  refine ⟨fun x hx1 hx2 o => ?_, fun t ht => ?_⟩
  · by_cases e : x = j
    · subst e
      obtain ⟨i, i1, i2⟩ := hne
      apply i2
      rw [← o.2.2 i (by omega), Nat.add_comm]
    · obtain ⟨d, rfl⟩ : ∃ d, x = j + d := ⟨x - j, by omega⟩
      obtain ⟨h1, h2⟩ := tw_lrep ⟨c1, c2, c3, c4, c5, c6⟩ (by omega) hR (Or.inr rfl) o
      have := c5 d (by omega) h2
      omega
  · rw [p2 t (by omega), hR (t + turn) (by omega) (by omega)]
    congr 1
    omega
theorem tw_S3 {f T : Nat → Int32} {m n cut turn j s : Nat} (C : tw_Cut f m cut turn) (hR : ∀ t, cut ≤ t → t < m → f t = T (t + j)) (hne : ∃ i, i < cut ∧ f i ≠ T (i + j)) (hp : ∃ i, i < cut ∧ f i ≠ f (i + turn)) (hs : s ≤ cut + 1 ∨ s ≤ m - cut + 1) :
    ∀ x, j ≤ x → x < j + s → ¬ tw_O f T m n x := by
  intro x hx1 hx2 o
  by_cases e : x = j
  · subst e
    obtain ⟨i, i1, i2⟩ := hne
    apply i2
    rw [← o.2.2 i (by have := C.1; omega), Nat.add_comm]
  · obtain ⟨d, rfl⟩ : ∃ d, x = j + d := ⟨x - j, by omega⟩
    obtain ⟨h1, h2⟩ := tw_lrep C (by omega) hR (Or.inr rfl) o
    have := C.2.2.2.2.2 hp d (by omega) h2
    omega
/-! counts of places with a property -/
noncomputable def tw_b (P : Prop) : Nat := @ite Nat P (Classical.propDecidable P) 1 0
theorem tw_b1 {P : Prop} (h : P) : tw_b P = 1 := @if_pos P (Classical.propDecidable P) h Nat 1 0
theorem tw_b0 {P : Prop} (h : ¬ P) : tw_b P = 0 := @if_neg P (Classical.propDecidable P) h Nat 1 0
noncomputable def tw_cnt (P : Nat → Prop) : Nat → Nat
  | 0 => 0
  | n + 1 => tw_cnt P n + tw_b (P n)
theorem tw_cnt_0 (P : Nat → Prop) : tw_cnt P 0 = 0 := rfl
theorem tw_cnt_y {P : Nat → Prop} {n : Nat} (h : P n) : tw_cnt P (n + 1) = tw_cnt P n + 1 := by
  show tw_cnt P n + tw_b (P n) = _
  rw [tw_b1 h]
theorem tw_cnt_n {P : Nat → Prop} {n : Nat} (h : ¬ P n) : tw_cnt P (n + 1) = tw_cnt P n := by
  show tw_cnt P n + tw_b (P n) = _
  rw [tw_b0 h]; rfl
theorem tw_cnt_le (P : Nat → Prop) : ∀ n, tw_cnt P n ≤ n := by
  intro n
  induction n with
  | zero => exact Nat.le_refl _
  | succ n ih =>
    by_cases h : P n
    · rw [tw_cnt_y h]; omega
    · rw [tw_cnt_n h]; omega
theorem tw_cnt_cg {P Q : Nat → Prop} : ∀ n, (∀ i, i < n → (P i ↔ Q i)) → tw_cnt P n = tw_cnt Q n := by
  intro n
  induction n with
  | zero => intro _; rfl
  | succ n ih =>
    intro h
    have e := ih (fun i hi => h i (by omega))
    by_cases hp : P n
    · rw [tw_cnt_y hp, tw_cnt_y ((h n (by omega)).mp hp), e]
    · rw [tw_cnt_n hp, tw_cnt_n (fun q => hp ((h n (by omega)).mpr q)), e]
theorem tw_cnt_no {P : Nat → Prop} {a : Nat} : ∀ d, (∀ i, a ≤ i → i < a + d → ¬ P i) → tw_cnt P (a + d) = tw_cnt P a := by
  intro d
  induction d with
  | zero => intro _; rfl
  | succ d ih =>
    intro h
    rw [← Nat.add_assoc, tw_cnt_n (h (a + d) (by omega) (by omega))]
    exact ih (fun i h1 h2 => h i h1 (by omega))
theorem tw_cnt_none {P : Nat → Prop} {a b : Nat} (hab : a ≤ b) (h : ∀ i, a ≤ i → i < b → ¬ P i) : tw_cnt P b = tw_cnt P a := by
  obtain ⟨d, rfl⟩ : ∃ d, b = a + d := ⟨b - a, by omega⟩
  exact tw_cnt_no d h
theorem tw_cnt_al {P : Nat → Prop} {a : Nat} : ∀ d, (∀ i, a ≤ i → i < a + d → P i) → tw_cnt P (a + d) = tw_cnt P a + d := by
  intro d
  induction d with
  | zero => intro _; rfl
  | succ d ih =>
    intro h
    rw [← Nat.add_assoc, tw_cnt_y (h (a + d) (by omega) (by omega)), ih (fun i h1 h2 => h i h1 (by omega))]
    omega
theorem tw_cnt_all {P : Nat → Prop} {a b : Nat} (hab : a ≤ b) (h : ∀ i, a ≤ i → i < b → P i) : tw_cnt P b = tw_cnt P a + (b - a) := by
  obtain ⟨d, rfl⟩ : ∃ d, b = a + d := ⟨b - a, by omega⟩
  rw [tw_cnt_al d h]
  omega
/-- the first place from a on with a property, or none up to n -/
theorem tw_find (P : Nat → Prop) (n : Nat) : ∀ a, (∀ i, a ≤ i → i < n → ¬ P i) ∨ ∃ j, a ≤ j ∧ j < n ∧ P j ∧ ∀ i, a ≤ i → i < j → ¬ P i := by
  have : ∀ d a, n - a = d → (∀ i, a ≤ i → i < n → ¬ P i) ∨ ∃ j, a ≤ j ∧ j < n ∧ P j ∧ ∀ i, a ≤ i → i < j → ¬ P i := by
    intro d
    induction d with
    | zero => intro a h; exact Or.inl (fun i h1 h2 => absurd h2 (by omega))
    | succ d ih =>
      intro a h
      by_cases hp : P a
      · exact Or.inr ⟨a, Nat.le_refl _, by omega, hp, fun i h1 h2 => absurd h2 (by omega)⟩
      · rcases ih (a + 1) (by omega) with g | ⟨j, j1, j2, j3, j4⟩
        · left
          intro i h1 h2
          by_cases e : i = a
          · rw [e]; exact hp
          · exact g i (by omega) h2
        · refine Or.inr ⟨j, by omega, j2, j3, fun i h1 h2 => ?_⟩
          by_cases e : i = a
          · rw [e]; exact hp
          · exact j4 i (by omega) h2
  intro a
  exact this _ a rfl
/-- the list of places: the k-th place is the one with k before it -/
def tw_PL (P : Nat → Prop) (n c : Nat) (pl : Nat → Int32) : Prop := c = tw_cnt P n ∧ ∀ i, i < n → P i → pl (tw_cnt P i) = nI i
theorem tw_nx {P : Nat → Prop} {n c : Nat} {pl : Nat → Int32} (h : tw_PL P n c pl) (a : Nat) (ha : a ≤ n) :
    (tw_cnt P a = c ∧ ∀ i, a ≤ i → i < n → ¬ P i) ∨ ∃ j, a ≤ j ∧ j < n ∧ P j ∧ (∀ i, a ≤ i → i < j → ¬ P i) ∧ tw_cnt P j = tw_cnt P a ∧ tw_cnt P (j + 1) = tw_cnt P a + 1 ∧ pl (tw_cnt P a) = nI j ∧ tw_cnt P a < c := by
  rcases tw_find P n a with g | ⟨j, j1, j2, j3, j4⟩
  · exact Or.inl ⟨by rw [h.1, tw_cnt_none ha g], g⟩
  · have e : tw_cnt P j = tw_cnt P a := tw_cnt_none j1 j4
    have e2 : tw_cnt P (j + 1) = tw_cnt P a + 1 := by rw [tw_cnt_y j3, e]
    refine Or.inr ⟨j, j1, j2, j3, j4, e, e2, by rw [← e]; exact h.2 j j2 j3, ?_⟩
    rw [h.1]
    have : ∀ d, tw_cnt P (j + 1) ≤ tw_cnt P (j + 1 + d) := by
      intro d
      induction d with
      | zero => exact Nat.le_refl _
      | succ d ih => exact Nat.le_trans ih (Nat.le_add_right _ _)
    have := this (n - (j + 1))
    rw [show j + 1 + (n - (j + 1)) = n by omega] at this
    omega
end
section
/-! borders, overlaps: pure -/
def tw_Bd (p : Nat → Int32) (k l : Nat) : Prop := l < k ∧ ∀ i, i < l → p i = p (k - l + i)
def tw_LB (p : Nat → Int32) (k l : Nat) : Prop := tw_Bd p k l ∧ ∀ l', tw_Bd p k l' → l' ≤ l
theorem tw_LB_uq {p : Nat → Int32} {k l l' : Nat} (h : tw_LB p k l) (g : tw_LB p k l') : l = l' :=
  Nat.le_antisymm (g.2 l h.1) (h.2 l' g.1)
theorem tw_bd_0 {p : Nat → Int32} {k : Nat} (h : 0 < k) : tw_Bd p k 0 := ⟨h, fun i hi => absurd hi (by omega)⟩
theorem tw_bd_s {p : Nat → Int32} {k l : Nat} : tw_Bd p (k + 1) (l + 1) ↔ tw_Bd p k l ∧ p l = p k := by
  constructor
  · rintro ⟨h1, h2⟩
    refine ⟨⟨by omega, fun i hi => ?_⟩, ?_⟩
    · rw [h2 i (by omega)]; congr 1; omega
    · rw [h2 l (by omega)]; congr 1; omega
  · rintro ⟨⟨h1, h2⟩, h3⟩
    refine ⟨by omega, fun i hi => ?_⟩
    by_cases e : i = l
    · rw [e, h3]; congr 1; omega
    · rw [h2 i (by omega)]; congr 1; omega
theorem tw_bd_sub {p : Nat → Int32} {k b l : Nat} (h : tw_Bd p k b) (g : tw_Bd p k l) (hl : l < b) : tw_Bd p b l := by
  refine ⟨hl, fun i hi => ?_⟩
  have hb := h.1
  rw [g.2 i hi, h.2 (b - l + i) (by omega)]
  congr 1; omega
theorem tw_bd_tr {p : Nat → Int32} {k b l : Nat} (h : tw_Bd p k b) (g : tw_Bd p b l) : tw_Bd p k l := by
  have h1 := h.1
  have g1 := g.1
  refine ⟨by omega, fun i hi => ?_⟩
  rw [g.2 i hi, h.2 (b - l + i) (by omega)]
  congr 1; omega
/-- the array of the longest borders, up to K -/
def tw_BA (p bor : Nat → Int32) (K : Nat) : Prop := bor 0 = -1 ∧ ∀ k, 1 ≤ k → k ≤ K → ∃ l, bor k = nI l ∧ tw_LB p k l
/-- the inner loop of fillBorders: b is still a candidate, no longer one fits -/
def tw_BI (p : Nat → Int32) (k b : Nat) : Prop := tw_Bd p k b ∧ ∀ l, tw_Bd p k l → p l = p k → l ≤ b
theorem tw_bi_0 {p : Nat → Int32} {k l : Nat} (h : tw_LB p k l) : tw_BI p k l := ⟨h.1, fun l' h1 _ => h.2 l' h1⟩
theorem tw_bi_y {p : Nat → Int32} {k b : Nat} (h : tw_BI p k b) (e : p b = p k) : tw_LB p (k + 1) (b + 1) := by
  refine ⟨tw_bd_s.mpr ⟨h.1, e⟩, fun l' hl => ?_⟩
  cases l' with
  | zero => omega
  | succ l =>
    obtain ⟨h1, h2⟩ := tw_bd_s.mp hl
    have := h.2 l h1 h2
    omega
theorem tw_bi_n {p : Nat → Int32} {k b c : Nat} (h : tw_BI p k b) (e : ¬ p b = p k) (hc : tw_LB p b c) : tw_BI p k c := by
  refine ⟨tw_bd_tr h.1 hc.1, fun l h1 h2 => ?_⟩
  have h3 := h.2 l h1 h2
  have h4 : l ≠ b := by intro q; subst q; exact e h2
  exact hc.2 l (tw_bd_sub h.1 h1 (by omega))
theorem tw_bi_z {p : Nat → Int32} {k : Nat} (h : tw_BI p k 0) (e : ¬ p 0 = p k) : tw_LB p (k + 1) 0 := by
  refine ⟨tw_bd_0 (by omega), fun l' hl => ?_⟩
  cases l' with
  | zero => omega
  | succ l =>
    obtain ⟨h1, h2⟩ := tw_bd_s.mp hl
    have := h.2 l h1 h2
    have e0 : l = 0 := by omega
    subst e0
    exact absurd h2 e
theorem tw_lb_1 (p : Nat → Int32) : tw_LB p 1 0 := ⟨tw_bd_0 (by omega), fun l h => by have := h.1; omega⟩
theorem tw_BA_up {p bor : Nat → Int32} {K l : Nat} (h : tw_BA p bor K) (g : tw_LB p (K + 1) l) : tw_BA p (upd bor (K + 1) (nI l)) (K + 1) := by
  refine ⟨by rw [show upd bor (K + 1) (nI l) 0 = bor 0 from if_neg (by omega)]; exact h.1, fun k h1 h2 => ?_⟩
  by_cases e : k = K + 1
  · subst e
    exact ⟨l, if_pos rfl, g⟩
  · obtain ⟨l', a, b⟩ := h.2 k h1 (by omega)
    exact ⟨l', by rw [← a]; exact if_neg e, b⟩
/-- the chain of borders counts the borders -/
theorem tw_chain {p : Nat → Int32} {m b l : Nat} (hb : b = m ∨ tw_Bd p m b) (h : tw_LB p b l) : tw_Bd p m l ∧ tw_cnt (tw_Bd p m) b = tw_cnt (tw_Bd p m) l + 1 := by
  have hl := h.1.1
  have h1 : tw_Bd p m l := by
    rcases hb with e | e
    · subst e; exact h.1
    · exact tw_bd_tr e h.1
  refine ⟨h1, ?_⟩
  rw [← tw_cnt_y h1]
  refine tw_cnt_none (by omega) (fun i i1 i2 hi => ?_)
  have : i ≤ l := by
    rcases hb with e | e
    · subst e; exact h.2 i hi
    · exact h.2 i (tw_bd_sub e hi i2)
  omega
/-- isPeriod(q) is the border m - q -/
theorem tw_pd {p : Nat → Int32} {m q : Nat} (h1 : 1 ≤ q) (h2 : q ≤ m) : tw_Bd p m (m - q) ↔ ∀ i, i < m - q → p i = p (i + q) := by
  constructor
  · intro h i hi
    rw [h.2 i hi]; congr 1; omega
  · intro h
    exact ⟨by omega, fun i hi => by rw [h i hi]; congr 1; omega⟩
/-! the overlap of text and pattern -/
def tw_Ov (p T : Nat → Int32) (m i k : Nat) : Prop := k ≤ m ∧ k ≤ i ∧ ∀ t, t < k → T (i - k + t) = p t
def tw_LO (p T : Nat → Int32) (m i k : Nat) : Prop := tw_Ov p T m i k ∧ ∀ k', tw_Ov p T m i k' → k' ≤ k
theorem tw_LO_uq {p T : Nat → Int32} {m i k k' : Nat} (h : tw_LO p T m i k) (g : tw_LO p T m i k') : k = k' :=
  Nat.le_antisymm (g.2 k h.1) (h.2 k' g.1)
theorem tw_ov_0 {p T : Nat → Int32} {m i : Nat} : tw_Ov p T m i 0 := ⟨by omega, by omega, fun t ht => absurd ht (by omega)⟩
theorem tw_lo_0 {p T : Nat → Int32} {m : Nat} : tw_LO p T m 0 0 := ⟨tw_ov_0, fun k h => h.2.1⟩
theorem tw_ov_s {p T : Nat → Int32} {m i l : Nat} : tw_Ov p T m (i + 1) (l + 1) ↔ tw_Ov p T m i l ∧ l < m ∧ p l = T i := by
  constructor
  · rintro ⟨h1, h2, h3⟩
    refine ⟨⟨by omega, by omega, fun t ht => ?_⟩, by omega, ?_⟩
    · rw [← h3 t (by omega)]; congr 1; omega
    · rw [← h3 l (by omega)]; congr 1; omega
  · rintro ⟨⟨h1, h2, h3⟩, h4, h5⟩
    refine ⟨by omega, by omega, fun t ht => ?_⟩
    by_cases e : t = l
    · rw [e, h5]; congr 1; omega
    · rw [← h3 t (by omega)]; congr 1; omega
theorem tw_ov_sub {p T : Nat → Int32} {m i k l : Nat} (h : tw_Ov p T m i k) (g : tw_Ov p T m i l) (hl : l < k) : tw_Bd p k l := by
  refine ⟨hl, fun t ht => ?_⟩
  have h1 := h.2.1
  rw [← g.2.2 t ht, ← h.2.2 (k - l + t) (by omega)]
  congr 1; omega
theorem tw_ov_tr {p T : Nat → Int32} {m i k l : Nat} (h : tw_Ov p T m i k) (g : tw_Bd p k l) : tw_Ov p T m i l := by
  have h1 := h.1
  have h2 := h.2.1
  have g1 := g.1
  refine ⟨by omega, by omega, fun t ht => ?_⟩
  rw [g.2 t ht, ← h.2.2 (k - l + t) (by omega)]
  congr 1; omega
def tw_OI (p T : Nat → Int32) (m i k : Nat) : Prop := tw_Ov p T m i k ∧ ∀ l, tw_Ov p T m i l → l < m → p l = T i → l ≤ k
theorem tw_oi_0 {p T : Nat → Int32} {m i k : Nat} (h : tw_LO p T m i k) : tw_OI p T m i k := ⟨h.1, fun l h1 _ _ => h.2 l h1⟩
theorem tw_oi_y {p T : Nat → Int32} {m i k : Nat} (h : tw_OI p T m i k) (hk : k < m) (e : p k = T i) : tw_LO p T m (i + 1) (k + 1) := by
  refine ⟨tw_ov_s.mpr ⟨h.1, hk, e⟩, fun l' hl => ?_⟩
  cases l' with
  | zero => omega
  | succ l =>
    obtain ⟨h1, h2, h3⟩ := tw_ov_s.mp hl
    have := h.2 l h1 h2 h3
    omega
theorem tw_oi_n {p T : Nat → Int32} {m i k c : Nat} (h : tw_OI p T m i k) (e : k < m → ¬ p k = T i) (hc : tw_LB p k c) : tw_OI p T m i c := by
  refine ⟨tw_ov_tr h.1 hc.1, fun l h1 h2 h3 => ?_⟩
  have h4 := h.2 l h1 h2 h3
  have h5 : l ≠ k := by intro q; subst q; exact e h2 h3
  exact hc.2 l (tw_ov_sub h.1 h1 (by omega))
theorem tw_oi_z {p T : Nat → Int32} {m i : Nat} (h : tw_OI p T m i 0) (e : 0 < m → ¬ p 0 = T i) : tw_LO p T m (i + 1) 0 := by
  refine ⟨tw_ov_0, fun l' hl => ?_⟩
  cases l' with
  | zero => omega
  | succ l =>
    obtain ⟨h1, h2, h3⟩ := tw_ov_s.mp hl
    have := h.2 l h1 h2 h3
    have e0 : l = 0 := by omega
    subst e0
    exact absurd h3 (e h2)
/-! occurrences apart: greedy against the table -/
noncomputable def tw_g (P : Nat → Prop) (m : Nat) : Nat → Nat → Nat
  | 0, _ => 0
  | d + 1, x => @ite Nat (P x) (Classical.propDecidable (P x)) (1 + tw_g P m d (x + m)) (tw_g P m d (x + 1))
theorem tw_g_y {P : Nat → Prop} {m d x : Nat} (h : P x) : tw_g P m (d + 1) x = 1 + tw_g P m d (x + m) := @if_pos (P x) (Classical.propDecidable (P x)) h Nat _ _
theorem tw_g_n {P : Nat → Prop} {m d x : Nat} (h : ¬ P x) : tw_g P m (d + 1) x = tw_g P m d (x + 1) := @if_neg (P x) (Classical.propDecidable (P x)) h Nat _ _
theorem tw_g_0 {P : Nat → Prop} {m n : Nat} (hP : ∀ i, P i → i < n) : ∀ d x, n ≤ x → tw_g P m d x = 0 := by
  intro d
  induction d with
  | zero => intro x _; rfl
  | succ d ih =>
    intro x hx
    rw [tw_g_n (fun q => by have := hP x q; omega)]
    exact ih (x + 1) (by omega)
theorem tw_g_s {P : Nat → Prop} {m n : Nat} (hP : ∀ i, P i → i < n) (h0 : ∀ i, P i → 0 < m) : ∀ d x, n ≤ x + d → tw_g P m (d + 1) x = tw_g P m d x := by
  intro d
  induction d with
  | zero => intro x hx; rw [tw_g_0 hP _ x (by omega), tw_g_0 hP _ x (by omega)]
  | succ d ih =>
    intro x hx
    by_cases h : P x
    · have := h0 x h
      rw [tw_g_y h, tw_g_y h, ih (x + m) (by omega)]
    · rw [tw_g_n h, tw_g_n h, ih (x + 1) (by omega)]
noncomputable def tw_ga (P : Nat → Prop) (m x : Nat) : Nat := tw_g P m 64 x
theorem tw_ga_0 {P : Nat → Prop} {m n x : Nat} (hP : ∀ i, P i → i < n) (h : n ≤ x) : tw_ga P m x = 0 := tw_g_0 hP 64 x h
theorem tw_ga_y {P : Nat → Prop} {m n x : Nat} (hP : ∀ i, P i → i < n) (h0 : ∀ i, P i → 0 < m) (hn : n ≤ 48) (h : P x) : tw_ga P m x = 1 + tw_ga P m (x + m) := by
  show tw_g P m (63 + 1) x = 1 + tw_g P m (63 + 1) (x + m)
  rw [tw_g_y h, tw_g_s hP h0 63 (x + m) (by omega)]
theorem tw_ga_n {P : Nat → Prop} {m n x : Nat} (hP : ∀ i, P i → i < n) (h0 : ∀ i, P i → 0 < m) (hn : n ≤ 48) (h : ¬ P x) : tw_ga P m x = tw_ga P m (x + 1) := by
  show tw_g P m (63 + 1) x = tw_g P m (63 + 1) (x + 1)
  rw [tw_g_n h, tw_g_s hP h0 63 (x + 1) (by omega)]
theorem tw_ga_ml {P : Nat → Prop} {m n : Nat} (hP : ∀ i, P i → i < n) (h0 : ∀ i, P i → 0 < m) (hn : n ≤ 48) : ∀ d y, n - y ≤ d → (∀ z, y ≤ z → tw_ga P m z ≤ tw_ga P m y) ∧ (∀ z, y ≤ z → z ≤ y + m → tw_ga P m y ≤ 1 + tw_ga P m z) := by
  intro d
  induction d with
  | zero =>
    intro y hy
    refine ⟨fun z hz => ?_, fun z hz _ => ?_⟩
    · rw [tw_ga_0 hP (x := z) (by omega)]; omega
    · rw [tw_ga_0 hP (x := y) (by omega)]; omega
  | succ d ih =>
    intro y hy
    obtain ⟨I1, I2⟩ := ih (y + 1) (by omega)
    refine ⟨fun z hz => ?_, fun z hz1 hz2 => ?_⟩
    · by_cases e : z = y
      · subst e; omega
      · have a := I1 z (by omega)
        by_cases h : P y
        · have := h0 y h
          have b := I2 (y + m) (by omega) (by omega)
          rw [tw_ga_y hP h0 hn h]; omega
        · rw [tw_ga_n hP h0 hn h]; omega
    · by_cases e : z = y
      · subst e; omega
      · by_cases h : P y
        · have := h0 y h
          have b := (ih z (by omega)).1 (y + m) (by omega)
          rw [tw_ga_y hP h0 hn h]; omega
        · have b := I2 z (by omega) (by omega)
          rw [tw_ga_n hP h0 hn h]; omega
theorem tw_ga_max {P : Nat → Prop} {m n x : Nat} (hP : ∀ i, P i → i < n) (h0 : ∀ i, P i → 0 < m) (hn : n ≤ 48) (h : P x) : tw_ga P m (x + 1) ≤ 1 + tw_ga P m (x + m) :=
  (tw_ga_ml hP h0 hn _ (x + 1) (Nat.le_refl _)).2 (x + m) (by have := h0 x h; omega) (by omega)
theorem tw_ga_no {P : Nat → Prop} {m n : Nat} (hP : ∀ i, P i → i < n) (h0 : ∀ i, P i → 0 < m) (hn : n ≤ 48) {a : Nat} : ∀ d, (∀ i, a ≤ i → i < a + d → ¬ P i) → tw_ga P m a = tw_ga P m (a + d) := by
  intro d
  induction d with
  | zero => intro _; rfl
  | succ d ih =>
    intro h
    rw [ih (fun i h1 h2 => h i h1 (by omega)), tw_ga_n hP h0 hn (h (a + d) (by omega) (by omega))]
    rfl
theorem tw_ga_none {P : Nat → Prop} {m n a b : Nat} (hP : ∀ i, P i → i < n) (h0 : ∀ i, P i → 0 < m) (hn : n ≤ 48) (hab : a ≤ b) (h : ∀ i, a ≤ i → i < b → ¬ P i) : tw_ga P m a = tw_ga P m b := by
  obtain ⟨d, rfl⟩ : ∃ d, b = a + d := ⟨b - a, by omega⟩
  exact tw_ga_no hP h0 hn d h
theorem tw_ga_le {P : Nat → Prop} {m n : Nat} (hP : ∀ i, P i → i < n) (h0 : ∀ i, P i → 0 < m) (hn : n ≤ 48) : ∀ d x, x + d = n → tw_ga P m x ≤ d := by
  intro d
  induction d with
  | zero => intro x hx; rw [tw_ga_0 hP (by omega)]; omega
  | succ d ih =>
    intro x hx
    have a := ih (x + 1) (by omega)
    by_cases h : P x
    · have b := (tw_ga_ml hP h0 hn _ (x + 1) (Nat.le_refl _)).1 (x + m) (by have := h0 x h; omega)
      rw [tw_ga_y hP h0 hn h]; omega
    · rw [tw_ga_n hP h0 hn h]; omega
end
section
/-! the least rotation: pure -/
def tw_R (p : Nat → Int32) (m a t : Nat) : Int := (p ((a + t) % m)).toInt
def tw_RL (p : Nat → Int32) (m a b : Nat) : Prop := ∃ k, k < m ∧ (∀ t, t < k → tw_R p m a t = tw_R p m b t) ∧ tw_R p m a k < tw_R p m b k
theorem tw_RL_irr {p : Nat → Int32} {m a : Nat} (h : tw_RL p m a a) : False := by
  obtain ⟨k, _, _, h3⟩ := h
  omega
theorem tw_RL_tr {p : Nat → Int32} {m a b c : Nat} (h : tw_RL p m a b) (g : tw_RL p m b c) : tw_RL p m a c := by
  obtain ⟨k, k1, k2, k3⟩ := h
  obtain ⟨l, l1, l2, l3⟩ := g
  rcases Nat.lt_trichotomy k l with q | q | q
  · exact ⟨k, k1, fun t ht => (k2 t ht).trans (l2 t (by omega)), by rw [← l2 k q]; exact k3⟩
  · subst q
    exact ⟨k, k1, fun t ht => (k2 t ht).trans (l2 t ht), Int.lt_trans k3 l3⟩
  · exact ⟨l, l1, fun t ht => (k2 t (by omega)).trans (l2 t ht), by rw [k2 l q]; exact l3⟩
theorem tw_RL_tri (p : Nat → Int32) (m a b : Nat) : tw_RL p m a b ∨ tw_RL p m b a ∨ ∀ t, t < m → tw_R p m a t = tw_R p m b t := by
  rcases tw_first (tw_R p m a) (tw_R p m b) m with h | ⟨s, s1, s2, s3⟩
  · exact Or.inr (Or.inr h)
  · rcases Int.lt_trichotomy (tw_R p m a s) (tw_R p m b s) with q | q | q
    · exact Or.inl ⟨s, s1, s2, q⟩
    · exact absurd q s3
    · exact Or.inr (Or.inl ⟨s, s1, fun t ht => (s2 t ht).symm, q⟩)
/-- b is the first least rotation among those below u -/
def tw_FLu (p : Nat → Int32) (m b u : Nat) : Prop := (∀ a, a < b → tw_RL p m b a) ∧ ∀ a, b < a → a < u → ¬ tw_RL p m a b
theorem tw_fl_n {p : Nat → Int32} {m b i : Nat} (h : tw_FLu p m b i) (hn : ¬ tw_RL p m i b) : tw_FLu p m b (i + 1) := by
  refine ⟨h.1, fun a h1 h2 => ?_⟩
  by_cases e : a = i
  · rw [e]; exact hn
  · exact h.2 a h1 (by omega)
theorem tw_fl_y {p : Nat → Int32} {m b i : Nat} (h : tw_FLu p m b i) (hn : tw_RL p m i b) : tw_FLu p m i (i + 1) := by
  refine ⟨fun a ha => ?_, fun a h1 h2 => absurd h2 (by omega)⟩
  rcases Nat.lt_trichotomy a b with q | q | q
  · exact tw_RL_tr hn (h.1 a q)
  · rw [q]; exact hn
  · rcases tw_RL_tri p m i a with r | r | r
    · exact r
    · exact absurd (tw_RL_tr r hn) (h.2 a q ha)
    · refine absurd ?_ (h.2 a q ha)
      obtain ⟨k, k1, k2, k3⟩ := hn
      exact ⟨k, k1, fun t ht => (r t (by omega)).symm.trans (k2 t ht), by rw [← r k k1]; exact k3⟩
def tw_NL (p : Nat → Int32) (m a : Nat) : Prop := ∃ b, b < m ∧ tw_RL p m b a
theorem tw_fl_NL {p : Nat → Int32} {m b : Nat} (h : tw_FLu p m b m) (n : tw_NL p m b) : False := by
  obtain ⟨a, a1, a2⟩ := n
  rcases Nat.lt_trichotomy a b with q | q | q
  · exact tw_RL_irr (tw_RL_tr a2 (h.1 a q))
  · subst q; exact tw_RL_irr a2
  · exact h.2 a q a1 a2
def tw_RI (p : Nat → Int32) (m i j k : Nat) : Prop := i ≠ j ∧ (∀ t, t < k → tw_R p m i t = tw_R p m j t) ∧ ∀ a, a < m → ((i < a ∧ a < j) ∨ (j < a ∧ a < i) ∨ (a < i ∧ a < j)) → tw_NL p m a
theorem tw_ri_0 (p : Nat → Int32) (m : Nat) : tw_RI p m 0 1 0 := ⟨by omega, fun t ht => absurd ht (by omega), fun a _ h => absurd h (by omega)⟩
theorem tw_ri_e {p : Nat → Int32} {m i j k : Nat} (h : tw_RI p m i j k) (e : tw_R p m i k = tw_R p m j k) : tw_RI p m i j (k + 1) := by
  refine ⟨h.1, fun t ht => ?_, h.2.2⟩
  by_cases q : t = k
  · rw [q]; exact e
  · exact h.2.1 t (by omega)
theorem tw_R_sh (p : Nat → Int32) (m a t s : Nat) : tw_R p m (a + t) s = tw_R p m a (t + s) := by
  unfold tw_R
  rw [Nat.add_assoc]
theorem tw_R_md (p : Nat → Int32) (m a s : Nat) : tw_R p m (a % m) s = tw_R p m a s := by
  unfold tw_R
  rw [Nat.mod_add_mod]
/-- all that stand before the difference lose -/
theorem tw_lose {p : Nat → Int32} {m i j k t : Nat} (h0 : 0 < m) (hk : k < m) (he : ∀ t, t < k → tw_R p m i t = tw_R p m j t) (hl : tw_R p m j k < tw_R p m i k) (ht : t ≤ k) : tw_NL p m (i + t) := by
  refine ⟨(j + t) % m, Nat.mod_lt _ h0, k - t, by omega, fun s hs => ?_, ?_⟩
  · rw [tw_R_md, tw_R_sh, tw_R_sh]
    exact (he (t + s) (by omega)).symm
  · rw [tw_R_md, tw_R_sh, tw_R_sh, show t + (k - t) = k by omega]
    exact hl
theorem tw_ri_g {p : Nat → Int32} {m i j k : Nat} (h0 : 0 < m) (hk : k < m) (h : tw_RI p m i j k) (hl : tw_R p m j k < tw_R p m i k) :
    (i + k + 1 ≠ j → tw_RI p m (i + k + 1) j 0) ∧ (i + k + 1 = j → tw_RI p m (i + k + 1) (j + 1) 0) := by
  have E : ∀ a, i ≤ a → a < i + k + 1 → tw_NL p m a := by
    intro a h1 h2
    have := tw_lose h0 hk h.2.1 hl (t := a - i) (by omega)
    rw [show i + (a - i) = a by omega] at this
    exact this
  refine ⟨fun hn => ⟨hn, fun t ht => absurd ht (by omega), fun a ha hh => ?_⟩, fun hn => ⟨by omega, fun t ht => absurd ht (by omega), fun a ha hh => ?_⟩⟩
  · by_cases q : i ≤ a ∧ a < i + k + 1
    · exact E a q.1 q.2
    · exact h.2.2 a ha (by omega)
  · by_cases q : i ≤ a ∧ a < i + k + 1
    · exact E a q.1 q.2
    · exact h.2.2 a ha (by omega)
theorem tw_ri_l {p : Nat → Int32} {m i j k : Nat} (h0 : 0 < m) (hk : k < m) (h : tw_RI p m i j k) (hl : tw_R p m i k < tw_R p m j k) :
    (i ≠ j + k + 1 → tw_RI p m i (j + k + 1) 0) ∧ (i = j + k + 1 → tw_RI p m i (j + k + 1 + 1) 0) := by
  have E : ∀ a, j ≤ a → a < j + k + 1 → tw_NL p m a := by
    intro a h1 h2
    have := tw_lose h0 hk (fun t ht => (h.2.1 t ht).symm) hl (t := a - j) (by omega)
    rw [show j + (a - j) = a by omega] at this
    exact this
  refine ⟨fun hn => ⟨hn, fun t ht => absurd ht (by omega), fun a ha hh => ?_⟩, fun hn => ⟨by omega, fun t ht => absurd ht (by omega), fun a ha hh => ?_⟩⟩
  · by_cases q : j ≤ a ∧ a < j + k + 1
    · exact E a q.1 q.2
    · exact h.2.2 a ha (by omega)
  · by_cases q : j ≤ a ∧ a < j + k + 1
    · exact E a q.1 q.2
    · exact h.2.2 a ha (by omega)
theorem tw_R_per (p : Nat → Int32) (m a t : Nat) : tw_R p m a (t % m) = tw_R p m a t := by
  unfold tw_R
  rw [Nat.add_mod_mod]
theorem tw_tie {p : Nat → Int32} {m lo hi L : Nat} (h0 : 0 < m) (hlh : lo < hi) (he : ∀ t, t < m → tw_R p m lo t = tw_R p m hi t) (hL : hi ≤ L) (f : tw_FLu p m L m) : False := by
  obtain ⟨k, k1, k2, k3⟩ := f.1 (L - (hi - lo)) (by omega)
  have a1 := he ((L - hi + k) % m) (Nat.mod_lt _ h0)
  rw [tw_R_per, tw_R_per] at a1
  have b1 : tw_R p m (L - (hi - lo)) k = tw_R p m lo (L - hi + k) := by
    rw [← tw_R_sh]; congr 1; omega
  have b2 : tw_R p m L k = tw_R p m hi (L - hi + k) := by
    rw [← tw_R_sh]; congr 1; omega
  omega
theorem tw_ri_end {p : Nat → Int32} {m i j k L : Nat} (h0 : 0 < m) (h : tw_RI p m i j k) (he : m ≤ i ∨ m ≤ j ∨ m ≤ k) (hL : L < m) (f : tw_FLu p m L m) : (i < j → L = i) ∧ (j ≤ i → L = j) := by
  have N : ¬ ((i < L ∧ L < j) ∨ (j < L ∧ L < i) ∨ (L < i ∧ L < j)) := fun q => tw_fl_NL f (h.2.2 L hL q)
  have hij := h.1
  by_cases hk : m ≤ k
  · refine ⟨fun q => ?_, fun q => ?_⟩
    · by_cases e : L = i
      · exact e
      · exact (tw_tie h0 q (fun t ht => h.2.1 t (by omega)) (by omega) f).elim
    · by_cases e : L = j
      · exact e
      · exact (tw_tie h0 (show j < i by omega) (fun t ht => (h.2.1 t (by omega)).symm) (by omega) f).elim
  · omega
/-! the factors -/
def tw_V (p : Nat → Int32) : Nat → Int := fun i => (p i).toInt
def tw_LE (w : Nat → Int) (m s e : Nat) : Prop := tw_Lyn w s e ∧ e ≤ m ∧ ∀ e', e' ≤ m → tw_Lyn w s e' → e' ≤ e
theorem tw_LE_uq {w : Nat → Int} {m s e f : Nat} (h : tw_LE w m s e) (g : tw_LE w m s f) : e = f :=
  Nat.le_antisymm (g.2.2 e h.2.1 h.1) (h.2.2 f g.2.1 g.1)
theorem tw_dv {w : Nat → Int} {m i q j : Nat} (h : tw_LR w i q j) (hj : j ≤ m) (hx : j = m ∨ w j < w (j - q)) : tw_LE w m i (i + q) := by
  obtain ⟨h0, h1, h2, h3⟩ := h
  refine ⟨h2, by omega, fun e he hl => ?_⟩
  apply Decidable.byContradiction
  intro hn
  obtain ⟨k, k1, k2, k3⟩ := hl.2 (i + q) (by omega) (by omega)
  by_cases hk : i + q + k < j
  · have := h3 (i + k) (by omega) (by omega)
    rw [show i + k + q = i + q + k by omega] at this
    omega
  · rcases hx with hx | hx
    · omega
    · by_cases hk2 : j - i - q < k
      · have := k2 (j - i - q) hk2
        rw [show i + (j - i - q) = j - q by omega, show i + q + (j - i - q) = j by omega] at this
        omega
      · have e1 : i + q + k = j := by omega
        have e2 : i + k = j - q := by omega
        rw [e1, e2] at k3
        omega
noncomputable def tw_fe (w : Nat → Int) (m s : Nat) : Nat := Classical.epsilon (tw_LE w m s)
theorem tw_fe_eq {w : Nat → Int} {m s e : Nat} (h : tw_LE w m s e) : tw_fe w m s = e :=
  tw_LE_uq (Classical.epsilon_spec (p := tw_LE w m s) ⟨e, h⟩) h
noncomputable def tw_st (w : Nat → Int) (m : Nat) : Nat → Nat
  | 0 => 0
  | c + 1 => tw_fe w m (tw_st w m c)
theorem tw_st_s {w : Nat → Int} {m c e : Nat} (h : tw_LE w m (tw_st w m c) e) : tw_st w m (c + 1) = e := tw_fe_eq h
end
section
section XS
variable {m n : Nat} {fc ft fC fT fs fk : Int32} {pat txt wrd plc brd fac : Nat → Int32}
/-! X: the greatest end, the cut -/
theorem xw_smaller {post : Int32 → Prop} {u : SX} {a b o : Int32} (h1 : tw_K o b < tw_K o a → post 1) (h0 : ¬ tw_K o b < tw_K o a → post 0) : wpX_smaller post u a b o := by
  obtain ⟨_, _, _, _, _, _, _, _, _, _, _, _, _, _⟩ := u
  unfold tw_K at h1 h0
  by_cases ho : o = 0
  · rw [if_pos ho, if_pos ho] at h1 h0
    refine br_t ho (br_c (fun h => h0 ?_) (fun h => h1 ?_))
    · rw [Int32.le_iff_toInt_le] at h; omega
    · rw [Int32.le_iff_toInt_le] at h; omega
  · rw [if_neg ho, if_neg ho] at h1 h0
    refine br_f ho (br_c (fun h => h0 ?_) (fun h => h1 ?_))
    · rw [Int32.le_iff_toInt_le] at h; omega
    · rw [Int32.le_iff_toInt_le] at h; omega
theorem xw_findEnd_l {post : SX → Prop} {o1 : Int32} (hm : m ≤ 16) (hp : ∀ b p, tw_MS (fun i => tw_K o1 (wrd i)) b m → tw_LR (fun i => tw_K o1 (wrd i)) b p m → post (nI m, nI n, fc, ft, nI b, nI p, fs, fk, pat, txt, wrd, plc, brd, fac)) :
    ∀ N b o k p rd, tw_FI (fun i => tw_K o1 (wrd i)) m b o k p → 48 < N + (b + o + k) → rd + 1 ≤ b + o + k → wX_findEnd_13 post o1 (nI m) (nI n) fc ft fC fT fs fk pat txt wrd plc brd fac N (nI b) (nI o) (nI k) (nI p) (nI rd) := by
  intro N
  induction N with
  | zero =>
    intro b o k p rd h h1 h2
    have := tw_fi_bo h
    have := h.2.2.2.1
    omega
  | succ N ih =>
    intro b o k p rd h h1 h2
    have q1 := tw_fi_bo h
    have q2 := h.2.2.2.1
    have q3 := h.2.2.1
    have hend : m ≤ o + k → post (nI m, nI n, fc, ft, nI b, nI p, fs, fk, pat, txt, wrd, plc, brd, fac) := fun g => hp b p (tw_fi_end h g).1 (tw_fi_end h g).2
    refine pk_le 64 rd (fun g => absurd g (by omega)) (fun g => pk_le m (o + k) (fun g => hend g) (fun g => ?_) (hy := nI_add o k))
    rw [nI_add o k, nI_add b k, nI_clamp (n := o + k) (by omega), nI_clamp (n := b + k) (by omega)]
    refine ⟨pk_in (o + k) 16 (by omega), nm_e ⟨pk_in (b + k) 16 (by omega), nm_e (br_c (fun e => ?_) (fun e => ?_))⟩⟩
    · have e' : tw_K o1 (wrd (o + k)) = tw_K o1 (wrd (b + k)) := by rw [e]
      refine nm_r (nI_1 k) (pk_eq (k + 1) p (fun z => ?_) (fun z => ?_))
      · refine nm_r (nI_add o p) (nm_r (nI_1 rd) ?_)
        exact ih b (o + p) 0 p (rd + 1) (tw_fi_e1 h g e' z) (by omega) (by omega)
      · refine nm_r (nI_1 rd) ?_
        exact ih b o (k + 1) p (rd + 1) (tw_fi_e2 h g e' z) (by omega) (by omega)
    · refine xw_smaller (fun z => br_f tw_10 ?_) (fun z => br_t rfl ?_)
      · refine nm_r (nI_1 (o + k)) (nm_r (pk_sub (a := o + k + 1) (b := b) (by omega)) (nm_r (nI_1 rd) ?_))
        exact ih b (o + k + 1) 0 (o + k + 1 - b) (rd + 1) (tw_fi_g h g z) (by omega) (by omega)
      · refine nm_r (nI_1 o) (nm_r (nI_1 rd) ?_)
        have e' : ¬ tw_K o1 (wrd (o + k)) = tw_K o1 (wrd (b + k)) := fun y => e (tw_K_eq.mp y)
        exact ih o (o + 1) 0 1 (rd + 1) (tw_fi_l h g (by show tw_K o1 (wrd (o + k)) < tw_K o1 (wrd (b + k)); omega)) (by omega) (by omega)
theorem xw_findEnd {post : SX → Prop} {o1 : Int32} (hm : m ≤ 16) (h0 : 0 < m) (hp : ∀ b p, tw_MS (fun i => tw_K o1 (wrd i)) b m → tw_LR (fun i => tw_K o1 (wrd i)) b p m → post (nI m, nI n, fc, ft, nI b, nI p, fs, fk, pat, txt, wrd, plc, brd, fac)) : wpX_findEnd post (nI m, nI n, fc, ft, fC, fT, fs, fk, pat, txt, wrd, plc, brd, fac) o1 :=
  ⟨48, xw_findEnd_l hm hp 48 0 1 0 1 0 (tw_fi_0 h0) (by omega) (by omega)⟩
theorem xw_cutWord {post : SX → Prop} (hm : m ≤ 16) (h0 : 0 < m) (hp : ∀ c t x y, tw_Cut wrd m c t → post (nI m, nI n, nI c, nI t, x, y, fs, fk, pat, txt, wrd, plc, brd, fac)) : wpX_cutWord post (nI m, nI n, fc, ft, fC, fT, fs, fk, pat, txt, wrd, plc, brd, fac) := by
  refine xw_findEnd hm h0 (fun b p h1 h2 => ?_)
  refine xw_findEnd hm h0 (fun c q g1 g2 => ?_)
  have hb := h1.1
  have hc := g1.1
  refine pk_le c b (fun z => ?_) (fun z => ?_)
  · refine hp b p (nI c) (nI q) (tw_cut_of (w := fun i => tw_K 0 (wrd i)) (c := c) (fun i j => tw_K_eq) h1 h2 ?_ z)
    have : (fun i => - tw_K 0 (wrd i)) = (fun i => tw_K 1 (wrd i)) := funext (fun i => tw_K_neg0 _)
    rw [this]; exact g1
  · refine hp c q (nI c) (nI q) (tw_cut_of (w := fun i => tw_K 1 (wrd i)) (c := b) (fun i j => tw_K_eq) g1 g2 ?_ (by omega))
    have : (fun i => - tw_K 1 (wrd i)) = (fun i => tw_K 0 (wrd i)) := funext (fun i => tw_K_neg1 _)
    rw [this]; exact h1
/-! X: searching -/
theorem xw_periodic_l {post : Int32 → Prop} {c t : Nat} (hm : m ≤ 16) (hct : c + t ≤ m) (h1 : (∀ i, i < c → wrd i = wrd (i + t)) → post 1) (h0 : (∃ i, i < c ∧ wrd i ≠ wrd (i + t)) → post 0) :
    ∀ N i, c < N + i → i ≤ c → (∀ j, j < i → wrd j = wrd (j + t)) → wX_periodic_20 post (nI m) (nI n) (nI c) (nI t) fC fT fs fk pat txt wrd plc brd fac N (nI i) := by
  intro N
  induction N with
  | zero => intro i h; omega
  | succ N ih =>
    intro i g1 g2 g3
    refine pk_le c i (fun z => h1 (fun j hj => g3 j (by omega))) (fun z => ?_)
    rw [nI_add i t, nI_clamp (n := i) (by omega), nI_clamp (n := i + t) (by omega)]
    refine ⟨pk_in i 16 (by omega), pk_in (i + t) 16 (by omega), br_c (fun e => nm_r (nI_1 i) ?_) (fun e => h0 ⟨i, z, e⟩)⟩
    refine ih (i + 1) (by omega) (by omega) (fun j hj => ?_)
    by_cases q : j = i
    · rw [q]; exact e
    · exact g3 j (by omega)
theorem xw_periodic {post : Int32 → Prop} {c t : Nat} (hm : m ≤ 16) (hct : c + t ≤ m) (h1 : (∀ i, i < c → wrd i = wrd (i + t)) → post 1) (h0 : (∃ i, i < c ∧ wrd i ≠ wrd (i + t)) → post 0) : wpX_periodic post (nI m, nI n, nI c, nI t, fC, fT, fs, fk, pat, txt, wrd, plc, brd, fac) :=
  pk_le (c + t) m (fun _ => ⟨c + 1, xw_periodic_l hm hct h1 h0 (c + 1) 0 (by omega) (by omega) (fun j hj => absurd hj (by omega))⟩) (fun z => absurd z (by omega)) (nI_add c t)
theorem xw_rd_l {post : Int32 → Prop} {j : Nat} (hm : m ≤ 16) (hj : j + m ≤ 48) : ∀ N i k, m < N + i → k ≤ i → i ≤ m → (∀ i', i ≤ i' → i' ≤ m → (∀ t, i ≤ t → t < i' → wrd t = txt (t + j)) → (i' < m → wrd i' ≠ txt (i' + j)) → post (nI i')) → wX_rightDifference_20 post (nI j) (nI m) (nI n) fc ft fC fT fs fk pat txt wrd plc brd fac N (nI i) (nI k) := by
  intro N
  induction N with
  | zero => intro i k h _ h2; omega
  | succ N ih =>
    intro i k h1 h2 h3 hp
    have hend : m ≤ i → post (nI i) := fun h => hp i (Nat.le_refl _) h3 (fun t a b => absurd b (by omega)) (fun a => absurd a (by omega))
    refine pk_le 16 k (fun h => hend (by omega)) (fun h => pk_le m i (fun g => hend g) (fun g => ?_))
    rw [nI_add i j, nI_clamp (n := i) (by omega), nI_clamp (n := i + j) (by omega)]
    refine ⟨pk_in i 16 (by omega), pk_in (i + j) 48 (by omega), br_c (fun e => ?_) (fun e => ?_)⟩
    · refine nm_r (nI_1 i) (nm_r (nI_1 k) (ih (i + 1) (k + 1) (by omega) (by omega) (by omega) (fun i' a b c d => hp i' (by omega) b (fun t t1 t2 => ?_) d)))
      by_cases q : t = i
      · rw [q]; exact e
      · exact c t (by omega) t2
    · exact hp i (Nat.le_refl _) h3 (fun t a b => absurd b (by omega)) (fun _ => e)
theorem xw_rd {post : Int32 → Prop} {c j kn : Nat} (hm : m ≤ 16) (hj : j + m ≤ 48) (hc : c ≤ m) (hk : kn ≤ m) (hp : ∀ i, c ≤ i → kn ≤ i → i ≤ m → (∀ t, c ≤ t → kn ≤ t → t < i → wrd t = txt (t + j)) → (i < m → wrd i ≠ txt (i + j)) → post (nI i)) : wpX_rightDifference post (nI m, nI n, nI c, ft, fC, fT, fs, fk, pat, txt, wrd, plc, brd, fac) (nI j) (nI kn) :=
  pk_le c kn (fun z => ⟨17, xw_rd_l hm hj 17 kn 0 (by omega) (by omega) hk (fun i a b e f => hp i (by omega) a b (fun t _ t2 t3 => e t t2 t3) f)⟩)
    (fun z => ⟨17, xw_rd_l hm hj 17 c 0 (by omega) (by omega) hc (fun i a b e f => hp i a (by omega) b (fun t t1 _ t3 => e t t1 t3) f)⟩)
theorem xw_lf_l {post : Int32 → Prop} {j kn : Nat} (hm : m ≤ 16) (hj : j + m ≤ 48) (hk : kn ≤ m) : ∀ c N, c < N → c ≤ m → ((∀ t, kn ≤ t → t < c → wrd t = txt (t + j)) → post 1) → ((∃ t, t < c ∧ wrd t ≠ txt (t + j)) → post 0) → wX_leftFits_7 post (nI j) (nI kn) (nI m) (nI n) fc ft fC fT fs fk pat txt wrd plc brd fac N (nI c - 1) := by
  intro c
  induction c with
  | zero =>
    intro N hN hc h1 h0
    obtain ⟨N, rfl⟩ : ∃ N', N = N' + 1 := ⟨N - 1, by omega⟩
    exact br_t ((tw_p1lt (by omega) (by omega)).mpr (by omega)) (h1 (fun t _ ht => absurd ht (by omega)))
  | succ c ih =>
    intro N hN hc h1 h0
    obtain ⟨N, rfl⟩ : ∃ N', N = N' + 1 := ⟨N - 1, by omega⟩
    by_cases hck : c + 1 ≤ kn
    · exact br_t ((tw_p1lt (by omega) (by omega)).mpr hck) (h1 (fun t _ ht => absurd ht (by omega)))
    · refine br_f (fun z => hck ((tw_p1lt (by omega) (by omega)).mp z)) ?_
      rw [nI_pred c, nI_add c j, nI_clamp (n := c) (by omega), nI_clamp (n := c + j) (by omega)]
      refine ⟨pk_in c 16 (by omega), pk_in (c + j) 48 (by omega), br_c (fun e => nm_r (tw_dec1 c) ?_) (fun e => h0 ⟨c, by omega, e⟩)⟩
      refine ih N (by omega) (by omega) (fun g => h1 (fun t t1 t2 => ?_)) (fun ⟨t, t1, t2⟩ => h0 ⟨t, by omega, t2⟩)
      by_cases q : t = c
      · rw [q]; exact e
      · exact g t t1 (by omega)
theorem xw_lf {post : Int32 → Prop} {c j kn : Nat} (hm : m ≤ 16) (hj : j + m ≤ 48) (hk : kn ≤ m) (hc : c ≤ m) (h1 : (∀ t, kn ≤ t → t < c → wrd t = txt (t + j)) → post 1) (h0 : (∃ t, t < c ∧ wrd t ≠ txt (t + j)) → post 0) : wpX_leftFits post (nI m, nI n, nI c, ft, fC, fT, fs, fk, pat, txt, wrd, plc, brd, fac) (nI j) (nI kn) :=
  nm_e ⟨c + 1, xw_lf_l hm hj hk c (c + 1) (by omega) hc h1 h0⟩
theorem xw_sl {post : Int32 → Prop} {c t fr sh : Nat} {ag : Int32} (hm : m ≤ 16) (hn : n ≤ 48) (C : tw_Cut wrd m c t) (hs0 : 0 < sh) (hs1 : sh ≤ 17)
    (hA : (ag = 0 ∧ (∃ i, i < c ∧ wrd i ≠ wrd (i + t)) ∧ (sh ≤ c + 1 ∨ sh ≤ m - c + 1)) ∨ (¬ ag = 0 ∧ (∀ i, i < c → wrd i = wrd (i + t)) ∧ sh = t))
    (hp1 : ∀ j, fr ≤ j → tw_O wrd txt m n j → (∀ i, fr ≤ i → i < j → ¬ tw_O wrd txt m n i) → post (nI j)) (hp2 : (∀ i, fr ≤ i → ¬ tw_O wrd txt m n i) → post (-1)) :
    ∀ N kn j rd, 100 < N + j → fr ≤ j → rd ≤ j → j ≤ 80 → kn ≤ m → (∀ x, x < kn → txt (j + x) = wrd x) → (∀ i, fr ≤ i → i < j → ¬ tw_O wrd txt m n i) → wX_search_57 post ag (nI sh) (nI m) (nI n) (nI c) (nI t) fC fT fs fk pat txt wrd plc brd fac N (nI kn) (nI j) (nI rd) := by
  have C0 := C.1
  have C1 := C.2.1
  have C2 := C.2.2.1
  intro N
  induction N with
  | zero => intro kn j rd h1 h2 h3 h4; omega
  | succ N ih =>
    intro kn j rd h1 h2 h3 h4 h5 h6 h7
    have hend : n < j + m → post (-1) := fun g => hp2 (fun i hi o => by
      by_cases q : i < j
      · exact h7 i hi q o
      · have := o.2.1
        omega)
    refine pk_lt 48 rd (fun g => hend (by omega)) (fun g => pk_lt n (j + m) (fun g => hend g) (fun g => ?_) (hy := nI_add j m))
    refine xw_rd hm (by omega) (by omega) h5 (fun i i1 i2 i3 i4 i5 => ?_)
    have hR : ∀ x, c ≤ x → x < i → wrd x = txt (x + j) := fun x x1 x2 => by
      by_cases q : kn ≤ x
      · exact i4 x x1 q x2
      · rw [← h6 x (by omega), Nat.add_comm]
    refine pk_le m i (fun z => ?_) (fun z => ?_)
    · have ei : i = m := by omega
      subst ei
      refine xw_lf hm (by omega) h5 (by omega) (fun l1 => ?_) (fun l0 => ?_)
      · refine br_f tw_10 (hp1 j h2 ⟨by omega, g, fun x hx => ?_⟩ h7)
        by_cases q1 : c ≤ x
        · rw [hR x q1 hx, Nat.add_comm]
        · by_cases q2 : kn ≤ x
          · rw [l1 x q2 (by omega), Nat.add_comm]
          · exact h6 x (by omega)
      · refine br_t rfl (nm_r (nI_add j sh) ?_)
        rcases hA with ⟨a1, a2, a3⟩ | ⟨a1, a2, a3⟩
        · refine br_t a1 (nm_r (nI_1 rd) ?_)
          have S := tw_S3 (n := n) (j := j) C hR l0 a2 a3
          refine ih 0 (j + sh) (rd + 1) (by omega) (by omega) (by omega) (by omega) (by omega) (fun x hx => absurd hx (by omega)) (fun x x1 x2 => ?_)
          by_cases q : x < j
          · exact h7 x x1 q
          · exact S x (by omega) x2
        · subst a3
          have S := tw_S2 (n := n) (j := j) C hR l0 a2
          refine br_f a1 (nm_r (pk_sub (by omega)) (nm_r (nI_1 rd) ?_))
          refine ih (i - sh) (j + sh) (rd + 1) (by omega) (by omega) (by omega) (by omega) (by omega) S.2 (fun x x1 x2 => ?_)
          by_cases q : x < j
          · exact h7 x x1 q
          · exact S.1 x (by omega) x2
    · have S := tw_S1 (n := n) (j := j) C hR i1 z (i5 z)
      refine nm_r (e' := nI (j + i - c + 1)) (by rw [nI_add j i, pk_sub (by omega), nI_1]) (nm_r (nI_1 rd) ?_)
      refine ih 0 (j + i - c + 1) (rd + 1) (by omega) (by omega) (by omega) (by omega) (by omega) (fun x hx => absurd hx (by omega)) (fun x x1 x2 => ?_)
      by_cases q : x < j
      · exact h7 x x1 q
      · exact S x (by omega) x2
theorem xw_search {post : Int32 → Prop} {c t fr : Nat} (hm : m ≤ 16) (hn : n ≤ 48) (C : tw_Cut wrd m c t) (hf : fr ≤ 48)
    (hp1 : ∀ j, fr ≤ j → tw_O wrd txt m n j → (∀ i, fr ≤ i → i < j → ¬ tw_O wrd txt m n i) → post (nI j)) (hp2 : (∀ i, fr ≤ i → ¬ tw_O wrd txt m n i) → post (-1)) : wpX_search post (nI m, nI n, nI c, nI t, fC, fT, fs, fk, pat, txt, wrd, plc, brd, fac) (nI fr) := by
  have C0 := C.1
  have C1 := C.2.1
  have C2 := C.2.2.1
  refine xw_periodic hm C2 (fun a => nm_r (pk_sub (a := m) (b := c) (by omega)) (br_f tw_10 ?_)) (fun a => nm_r (pk_sub (a := m) (b := c) (by omega)) (br_t rfl (pk_le c (m - c) (fun z => ?_) (fun z => ?_))))
  · exact ⟨101, xw_sl hm hn C C1 (by omega) (Or.inr ⟨tw_10, a, rfl⟩) hp1 hp2 101 0 fr 0 (by omega) (by omega) (by omega) (by omega) (by omega) (fun x hx => absurd hx (by omega)) (fun i i1 i2 => absurd i2 (by omega))⟩
  · refine nm_r (nI_1 (m - c)) ?_
    exact ⟨101, xw_sl hm hn C (by omega) (by omega) (Or.inl ⟨rfl, a, Or.inr (by omega)⟩) hp1 hp2 101 0 fr 0 (by omega) (by omega) (by omega) (by omega) (by omega) (fun x hx => absurd hx (by omega)) (fun i i1 i2 => absurd i2 (by omega))⟩
  · refine nm_r (nI_1 c) ?_
    exact ⟨101, xw_sl hm hn C (by omega) (by omega) (Or.inl ⟨rfl, a, Or.inl (by omega)⟩) hp1 hp2 101 0 fr 0 (by omega) (by omega) (by omega) (by omega) (by omega) (fun x hx => absurd hx (by omega)) (fun i i1 i2 => absurd i2 (by omega))⟩
/-! X: rotations, the list of places -/
def tw_rot (p : Nat → Int32) (m s : Nat) : Nat → Int32 := fun k => p ((s + k) % m)
theorem xw_rot_l {post : SX → Prop} {s : Nat} (hm : m ≤ 16) (hs : s < m) (hp : ∀ w, (∀ k, k < m → w k = tw_rot pat m s k) → post (nI m, nI n, fc, ft, fC, fT, fs, fk, pat, txt, w, plc, brd, fac)) :
    ∀ N k w, m < N + k → k ≤ m → (∀ x, x < k → w x = tw_rot pat m s x) → wX_rotateInto_2 post (nI s) (nI m) (nI n) fc ft fC fT fs fk N (nI k) pat txt w plc brd fac := by
  intro N
  induction N with
  | zero => intro k w h1 h2; omega
  | succ N ih =>
    intro k w h1 h2 h3
    refine pk_le m k (fun z => hp w (fun x hx => h3 x (by omega))) (fun z => nm_r (nI_add s k) (pk_le m (s + k) (fun y => ?_) (fun y => ?_)))
    · rw [pk_sub (a := s + k) (b := m) y, nI_clamp (n := s + k - m) (by omega), nI_clamp (n := k) (by omega)]
      refine ⟨pk_in (s + k - m) 16 (by omega), pk_in k 16 (by omega), nm_e (nm_r (nI_1 k) (ih (k + 1) _ (by omega) (by omega) (fun x hx => ?_)))⟩
      by_cases q : x = k
      · subst q
        rw [pk_us]
        show _ = pat ((s + x) % m)
        rw [tw_mod hs z, if_neg (by omega)]
      · rw [pk_un q]; exact h3 x (by omega)
    · rw [nI_clamp (n := s + k) (by omega), nI_clamp (n := k) (by omega)]
      refine ⟨pk_in (s + k) 16 (by omega), pk_in k 16 (by omega), nm_e (nm_r (nI_1 k) (ih (k + 1) _ (by omega) (by omega) (fun x hx => ?_)))⟩
      by_cases q : x = k
      · subst q
        rw [pk_us]
        show _ = pat ((s + x) % m)
        rw [tw_mod hs z, if_pos y]
      · rw [pk_un q]; exact h3 x (by omega)
theorem xw_rot {post : SX → Prop} {s : Nat} (hm : m ≤ 16) (hs : s < m) (hp : ∀ w, (∀ k, k < m → w k = tw_rot pat m s k) → post (nI m, nI n, fc, ft, fC, fT, fs, fk, pat, txt, w, plc, brd, fac)) : wpX_rotateInto post (nI m, nI n, fc, ft, fC, fT, fs, fk, pat, txt, wrd, plc, brd, fac) (nI s) :=
  ⟨17, xw_rot_l hm hs hp 17 0 wrd (by omega) (by omega) (fun x hx => absurd hx (by omega))⟩
theorem xw_fa_l {post : SX → Prop} {c t : Nat} (hm : m ≤ 16) (hn : n ≤ 48) (C : tw_Cut wrd m c t)
    (hp : ∀ k pl, tw_PL (tw_O wrd txt m n) n k pl → post (nI m, nI n, nI c, nI t, fC, fT, 1, nI k, pat, txt, wrd, pl, brd, fac)) :
    ∀ N a pl r, 48 < N + a → a ≤ n → (∀ i, i < a → tw_O wrd txt m n i → pl (tw_cnt (tw_O wrd txt m n) i) = nI i) →
      ((∃ j, a ≤ j ∧ tw_O wrd txt m n j ∧ (∀ i, a ≤ i → i < j → ¬ tw_O wrd txt m n i) ∧ r = nI j) ∨ ((∀ i, a ≤ i → ¬ tw_O wrd txt m n i) ∧ r = -1)) →
      wX_findAll_37 post (nI m) (nI n) (nI c) (nI t) fC fT fs N r (nI (tw_cnt (tw_O wrd txt m n) a)) (nI (tw_cnt (tw_O wrd txt m n) a)) pat txt wrd pl brd fac := by
  intro N
  induction N with
  | zero => intro a pl r h1 h2; omega
  | succ N ih =>
    intro a pl r h1 h2 h3 h4
    have hc := tw_cnt_le (tw_O wrd txt m n) a
    have hend : (∀ i, a ≤ i → ¬ tw_O wrd txt m n i) → post (nI m, nI n, nI c, nI t, fC, fT, 1, (nI (tw_cnt (tw_O wrd txt m n) a)), pat, txt, wrd, pl, brd, fac) := fun g => by
      refine hp _ pl ⟨(tw_cnt_none h2 (fun i i1 _ => g i i1)).symm, fun i i1 i2 => ?_⟩
      by_cases q : i < a
      · exact h3 i q i2
      · exact absurd i2 (g i (by omega))
    refine pk_le 48 (tw_cnt (tw_O wrd txt m n) a) (fun z => hend (fun i i1 i2 => ?_)) (fun z => ?_)
    · have := tw_O_lt i2
      omega
    · rcases h4 with ⟨j, j1, j2, j3, j4⟩ | ⟨j1, j2⟩
      · subst j4
        have jn := j2.2.1
        have j0 := j2.1
        have e : tw_cnt (tw_O wrd txt m n) j = tw_cnt (tw_O wrd txt m n) a := tw_cnt_none j1 j3
        have e2 : tw_cnt (tw_O wrd txt m n) (j + 1) = tw_cnt (tw_O wrd txt m n) a + 1 := by rw [tw_cnt_y j2, e]
        refine br_f (nI_pos (by omega)) ?_
        rw [nI_clamp (n := tw_cnt (tw_O wrd txt m n) a) (by omega)]
        refine ⟨pk_in _ 48 z, nm_e (nm_r ((nI_1 _).trans (congrArg nI e2.symm)) ?_)⟩
        have K : ∀ i, i < j + 1 → tw_O wrd txt m n i → upd pl (tw_cnt (tw_O wrd txt m n) a) (nI j) (tw_cnt (tw_O wrd txt m n) i) = nI i := by
          intro i i1 i2
          by_cases q : i = j
          · subst q; rw [e, pk_us]
          · have qa : i < a := by
              apply Decidable.byContradiction
              intro q2
              exact j3 i (by omega) (by omega) i2
            have lt : tw_cnt (tw_O wrd txt m n) i < tw_cnt (tw_O wrd txt m n) a := by
              have h := tw_nx (P := tw_O wrd txt m n) (n := a) (c := tw_cnt (tw_O wrd txt m n) a) (pl := pl) ⟨rfl, h3⟩ i (by omega)
              rcases h with ⟨_, h⟩ | ⟨_, _, _, _, _, _, _, _, h⟩
              · exact absurd i2 (h i (Nat.le_refl _) qa)
              · exact h
            rw [pk_un (by omega)]
            exact h3 i qa i2
        rw [nI_1 j]
        refine xw_search hm hn C (by omega) (fun x x1 x2 x3 => ?_) (fun x1 => ?_)
        · refine nm_r ((nI_1 _).trans (congrArg nI e2.symm)) ?_
          exact ih (j + 1) _ _ (by omega) (by omega) K (Or.inl ⟨x, x1, x2, x3, rfl⟩)
        · refine nm_r ((nI_1 _).trans (congrArg nI e2.symm)) ?_
          exact ih (j + 1) _ _ (by omega) (by omega) K (Or.inr ⟨x1, rfl⟩)
      · subst j2
        exact br_t tw_n1 (hend j1)
theorem xw_findAll {post : SX → Prop} (hm : m ≤ 16) (hn : n ≤ 48) (hs : ¬ fs = 0 → ∃ k, fk = nI k ∧ tw_PL (tw_O pat txt m n) n k plc)
    (hp : ∀ c t x y z k w pl, ¬ z = 0 → tw_PL (tw_O pat txt m n) n k pl → post (nI m, nI n, c, t, x, y, z, nI k, pat, txt, w, pl, brd, fac)) : wpX_findAll post (nI m, nI n, fc, ft, fC, fT, fs, fk, pat, txt, wrd, plc, brd, fac) := by
  refine br_c (fun e => pk_le m 0 (fun z => ?_) (fun z => ?_)) (fun e => ?_)
  · refine hp fc ft fC fT 1 0 wrd plc tw_10 ⟨?_, fun i _ o => absurd o.1 (by omega)⟩
    exact (tw_cnt_none (a := 0) (by omega) (fun i _ _ o => absurd o.1 (by omega))).symm
  · refine xw_rot (s := 0) hm z (fun w hw => ?_)
    refine xw_cutWord hm z (fun c t x y C => ?_)
    have hw2 : ∀ k, k < m → w k = pat k := fun k hk => by
      rw [hw k hk]
      show pat ((0 + k) % m) = _
      rw [Nat.zero_add, Nat.mod_eq_of_lt hk]
    have P : tw_O w txt m n = tw_O pat txt m n := funext (fun i => propext ⟨tw_O_cg hw2, tw_O_cg (fun k hk => (hw2 k hk).symm)⟩)
    have L := xw_fa_l (post := post) (fC := x) (fT := y) (fs := fs) (pat := pat) (txt := txt) (wrd := w) (brd := brd) (fac := fac) hm hn C (fun k pl h => hp (nI c) (nI t) x y 1 k w pl tw_10 (by rw [← P]; exact h))
    refine xw_search (fr := 0) hm hn C (by omega) (fun j j1 j2 j3 => ?_) (fun j1 => ?_)
    · exact ⟨49, L 49 0 plc (nI j) (by omega) (by omega) (fun i hi => absurd hi (by omega)) (Or.inl ⟨j, j1, j2, j3, rfl⟩)⟩
    · exact ⟨49, L 49 0 plc (-1) (by omega) (by omega) (fun i hi => absurd hi (by omega)) (Or.inr ⟨j1, rfl⟩)⟩
  · obtain ⟨k, k1, k2⟩ := hs e
    subst k1
    exact hp fc ft fC fT fs k wrd plc e k2
end XS
end
section
section XB
variable {m n : Nat} {fc ft fC fT fs fk : Int32} {pat txt wrd plc brd fac : Nat → Int32}
/-! X: the borders -/
theorem xw_fb_j {post : SX → Prop} {J9 : Int32 → (Nat → Int32) → (Nat → Int32) → (Nat → Int32) → (Nat → Int32) → (Nat → Int32) → (Nat → Int32) → Prop} {K l : Nat} {x2 : Int32} (hK : K < 16) (e : x2 + 1 = nI l) (hJ : J9 (nI (K + 1 + 1)) pat txt wrd plc (upd brd (K + 1) (nI l)) fac) : wX_fillBorders_68 post J9 (nI (K + 1)) x2 (nI m) (nI n) fc ft fC fT fs fk pat txt wrd plc brd fac := by
  unfold wX_fillBorders_68
  rw [nI_clamp (n := K + 1) (by omega), e]
  exact ⟨pk_in (K + 1) 17 (by omega), nm_e (nm_r (nI_1 (K + 1)) hJ)⟩
theorem xw_fb_n {post : SX → Prop} {J9 : Int32 → (Nat → Int32) → (Nat → Int32) → (Nat → Int32) → (Nat → Int32) → (Nat → Int32) → (Nat → Int32) → Prop} {K N x : Nat} (hK : K < 16) (hx : x ≤ 16) (hJ : J9 (nI (K + 1 + 1)) pat txt wrd plc (upd brd (K + 1) (nI 0)) fac) : wX_fillBorders_28 post J9 (nI (K + 1)) (nI m) (nI n) fc ft fC fT fs fk pat txt wrd plc brd fac (N + 1) (-1) (nI x) :=
  pk_le 16 x (fun _ => xw_fb_j hK rfl hJ) (fun _ => br_t tw_n1 (xw_fb_j hK rfl hJ))
theorem xw_fb_i {post : SX → Prop} {J9 : Int32 → (Nat → Int32) → (Nat → Int32) → (Nat → Int32) → (Nat → Int32) → (Nat → Int32) → (Nat → Int32) → Prop} {K : Nat} (hK : K < m) (hm : m ≤ 16) (B : tw_BA pat brd K) (hJ : ∀ l, tw_LB pat (K + 1) l → J9 (nI (K + 1 + 1)) pat txt wrd plc (upd brd (K + 1) (nI l)) fac) :
    ∀ b N x, b + 1 < N → tw_BI pat K b → x + b ≤ 14 → wX_fillBorders_28 post J9 (nI (K + 1)) (nI m) (nI n) fc ft fC fT fs fk pat txt wrd plc brd fac N (nI b) (nI x) := by
  intro b
  induction b using Nat.strongRecOn with
  | ind b ih =>
    intro N x hN hb hx
    obtain ⟨N, rfl⟩ : ∃ N', N = N' + 1 := ⟨N - 1, by omega⟩
    have hbK := hb.1.1
    refine pk_le 16 x (fun z => absurd z (by omega)) (fun _ => br_f (nI_pos (by omega)) ?_)
    rw [nI_pred K, nI_clamp (n := b) (by omega), nI_clamp (n := K) (by omega)]
    refine ⟨pk_in b 16 (by omega), pk_in K 16 (by omega), br_c (fun e => ?_) (fun e => ?_)⟩
    · exact xw_fb_j (by omega) (nI_1 b) (hJ (b + 1) (tw_bi_y hb e))
    · refine ⟨pk_in b 17 (by omega), ?_⟩
      by_cases b0 : b = 0
      · subst b0
        refine nm_r B.1 (nm_r (nI_1 x) ?_)
        obtain ⟨N, rfl⟩ : ∃ N', N = N' + 1 := ⟨N - 1, by omega⟩
        exact xw_fb_n (by omega) (by omega) (hJ 0 (tw_bi_z hb e))
      · obtain ⟨c, c1, c2⟩ := B.2 b (by omega) (by omega)
        have := c2.1.1
        refine nm_r c1 (nm_r (nI_1 x) ?_)
        exact ih c (by omega) N (x + 1) (by omega) (tw_bi_n hb e c2) (by omega)
theorem xw_fb_o {post : SX → Prop} (hm : m ≤ 16) (hp : ∀ br, tw_BA pat br m → post (nI m, nI n, fc, ft, fC, fT, fs, fk, pat, txt, wrd, plc, br, fac)) :
    ∀ N K br, m < N + K → K ≤ m → tw_BA pat br K → wX_fillBorders_9 post (nI m) (nI n) fc ft fC fT fs fk N (nI (K + 1)) pat txt wrd plc br fac := by
  intro N
  induction N with
  | zero => intro K br h1 h2; omega
  | succ N ih =>
    intro K br h1 h2 h3
    refine pk_lt m (K + 1) (fun z => ?_) (fun z => ?_)
    · have e : K = m := by omega
      subst e
      exact hp br h3
    · rw [nI_pred K, nI_clamp (n := K) (by omega)]
      refine ⟨pk_in K 17 (by omega), ?_⟩
      have J : ∀ l, tw_LB pat (K + 1) l → wX_fillBorders_9 post (nI m) (nI n) fc ft fC fT fs fk N (nI (K + 1 + 1)) pat txt wrd plc (upd br (K + 1) (nI l)) fac :=
        fun l hl => ih (K + 1) _ (by omega) (by omega) (tw_BA_up h3 hl)
      by_cases K0 : K = 0
      · subst K0
        exact nm_r h3.1 ⟨1, xw_fb_n (x := 0) (by omega) (by omega) (J 0 (tw_lb_1 pat))⟩
      · obtain ⟨c, c1, c2⟩ := h3.2 K (by omega) (by omega)
        have := c2.1.1
        exact nm_r c1 ⟨c + 2, xw_fb_i (by omega) hm h3 J c (c + 2) 0 (by omega) (tw_bi_0 c2) (by omega)⟩
theorem xw_fb {post : SX → Prop} (hm : m ≤ 16) (hp : ∀ br, tw_BA pat br m → post (nI m, nI n, fc, ft, fC, fT, fs, fk, pat, txt, wrd, plc, br, fac)) : wpX_fillBorders post (nI m, nI n, fc, ft, fC, fT, fs, fk, pat, txt, wrd, plc, brd, fac) :=
  nm_e ⟨m + 1, xw_fb_o hm hp (m + 1) 0 (upd brd 0 (-1)) (by omega) (by omega) ⟨pk_us, fun k h1 h2 => absurd h2 (by omega)⟩⟩
theorem xw_period {post : Int32 → SX → Prop} (hm : m ≤ 16) (h0 : m = 0 → post (-4) (nI m, nI n, fc, ft, fC, fT, fs, fk, pat, txt, wrd, plc, brd, fac)) (h1 : ∀ l br, 0 < m → tw_LB pat m l → post (nI (m - l)) (nI m, nI n, fc, ft, fC, fT, fs, fk, pat, txt, wrd, plc, br, fac)) : wpX_period post (nI m, nI n, fc, ft, fC, fT, fs, fk, pat, txt, wrd, plc, brd, fac) := by
  refine pk_eq m 0 h0 (fun z => xw_fb hm (fun br B => ?_))
  obtain ⟨l, l1, l2⟩ := B.2 m (by omega) (Nat.le_refl _)
  have := l2.1.1
  refine ⟨pk_in m 17 (by omega), ?_⟩
  rw [nI_clamp (n := m) (by omega), l1, pk_sub (by omega)]
  exact h1 l br (by omega) l2
theorem xw_border {post : Int32 → SX → Prop} {k : Nat} (hm : m ≤ 16) (hk1 : 1 ≤ k) (hk2 : k ≤ m) (h1 : ∀ l br, tw_LB pat k l → post (nI l) (nI m, nI n, fc, ft, fC, fT, fs, fk, pat, txt, wrd, plc, br, fac)) : wpX_border post (nI m, nI n, fc, ft, fC, fT, fs, fk, pat, txt, wrd, plc, brd, fac) (nI k) := by
  refine pk_lt k 1 (fun z => absurd z (by omega)) (fun _ => pk_le k m (fun _ => xw_fb hm (fun br B => ?_)) (fun z => absurd z (by omega)))
  obtain ⟨l, l1, l2⟩ := B.2 k hk1 hk2
  refine ⟨pk_in k 17 (by omega), ?_⟩
  rw [nI_clamp (n := k) (by omega), l1]
  exact h1 l br l2
theorem xw_periods_l {post : Int32 → SX → Prop} (hm : m ≤ 16) (B : tw_BA pat brd m) :
    ∀ b N x1 x3, b < N → (b = m ∨ tw_Bd pat m b) → x3 + b ≤ 16 → post (nI (x1 + tw_cnt (tw_Bd pat m) b)) (nI m, nI n, fc, ft, fC, fT, fs, fk, pat, txt, wrd, plc, brd, fac) → wX_periods_13 post (nI m) (nI n) fc ft fC fT fs fk pat txt wrd plc brd fac N (nI x1) (nI b) (nI x3) := by
  intro b
  induction b using Nat.strongRecOn with
  | ind b ih =>
    intro N x1 x3 hN hb hx hp
    obtain ⟨N, rfl⟩ : ∃ N', N = N' + 1 := ⟨N - 1, by omega⟩
    have hbm : b ≤ m := by
      rcases hb with e | e
      · omega
      · have := e.1; omega
    have hend : b = 0 → post (nI x1) (nI m, nI n, fc, ft, fC, fT, fs, fk, pat, txt, wrd, plc, brd, fac) := fun e => by
      subst e
      exact hp
    refine pk_le 16 x3 (fun z => hend (by omega)) (fun _ => pk_le b 0 (fun z => hend (by omega)) (fun z => nm_r (nI_1 x1) ?_))
    rw [nI_clamp (n := b) (by omega)]
    obtain ⟨l, l1, l2⟩ := B.2 b (by omega) hbm
    have := l2.1.1
    obtain ⟨c1, c2⟩ := tw_chain hb l2
    refine ⟨pk_in b 17 (by omega), nm_r l1 (nm_r (nI_1 x3) ?_)⟩
    refine ih l (by omega) N (x1 + 1) (x3 + 1) (by omega) (Or.inr c1) (by omega) ?_
    rw [show x1 + 1 + tw_cnt (tw_Bd pat m) l = x1 + tw_cnt (tw_Bd pat m) b by omega]
    exact hp
theorem xw_periods {post : Int32 → SX → Prop} (hm : m ≤ 16) (hp : ∀ br, post (nI (tw_cnt (tw_Bd pat m) m)) (nI m, nI n, fc, ft, fC, fT, fs, fk, pat, txt, wrd, plc, br, fac)) : wpX_periods post (nI m, nI n, fc, ft, fC, fT, fs, fk, pat, txt, wrd, plc, brd, fac) := by
  refine xw_fb hm (fun br B => ?_)
  refine ⟨m + 1, xw_periods_l hm B m (m + 1) 0 0 (by omega) (Or.inl rfl) (by omega) ?_⟩
  rw [Nat.zero_add]
  exact hp br
theorem xw_ov_n {post : Int32 → SX → Prop} {J8 : Int32 → Int32 → Prop} {i N x : Nat} (hx : x ≤ 16) (hJ : J8 (nI 0) (nI (i + 1))) : wX_overlap_47 post J8 (nI i) (nI m) (nI n) fc ft fC fT fs fk pat txt wrd plc brd fac (N + 1) (-1) (nI x) :=
  pk_lt 16 x (fun z => absurd z (by omega)) (fun _ => br_t tw_n1 (nm_r (e' := nI 0) rfl (nm_r (nI_1 i) hJ)))
theorem xw_ov_i {post : Int32 → SX → Prop} {J8 : Int32 → Int32 → Prop} {i : Nat} (hm : m ≤ 16) (hn : n ≤ 48) (hi : i < n) (B : tw_BA pat brd m) (hJ : ∀ k, tw_LO pat txt m (i + 1) k → J8 (nI k) (nI (i + 1))) :
    ∀ k N x, k + 1 < N → tw_OI pat txt m i k → (k < m ∨ m = 0) → x + k ≤ 15 → wX_overlap_47 post J8 (nI i) (nI m) (nI n) fc ft fC fT fs fk pat txt wrd plc brd fac N (nI k) (nI x) := by
  intro k
  induction k using Nat.strongRecOn with
  | ind k ih =>
    intro N x hN hk hkm hx
    have hk1 := hk.1.1
    obtain ⟨N, rfl⟩ : ∃ N', N = N' + 1 := ⟨N - 1, by omega⟩
    have hnext : (k < m → ¬ pat k = txt i) → vp_in (nI k) 17 ∧ (∀ y : Int32, y = brd k → (∀ y3 : Int32, y3 = nI x + 1 → wX_overlap_47 post J8 (nI i) (nI m) (nI n) fc ft fC fT fs fk pat txt wrd plc brd fac N y y3)) := fun e => by
      refine ⟨pk_in k 17 (by omega), ?_⟩
      by_cases k0 : k = 0
      · subst k0
        refine nm_r B.1 (nm_r (nI_1 x) ?_)
        obtain ⟨N, rfl⟩ : ∃ N', N = N' + 1 := ⟨N - 1, by omega⟩
        exact xw_ov_n (by omega) (hJ 0 (tw_oi_z hk e))
      · obtain ⟨c, c1, c2⟩ := B.2 k (by omega) (by omega)
        have := c2.1.1
        refine nm_r c1 (nm_r (nI_1 x) ?_)
        exact ih c (by omega) N (x + 1) (by omega) (tw_oi_n hk e c2) (by omega) (by omega)
    refine pk_lt 16 x (fun z => absurd z (by omega)) (fun _ => br_f (nI_pos (by omega)) ?_)
    rw [nI_clamp (n := k) (by omega), nI_clamp (n := i) (by omega)]
    refine pk_eq k m (fun z => hnext (fun q => absurd q (by omega))) (fun z => ⟨pk_in k 16 (by omega), pk_in i 48 (by omega), br_c (fun e => ?_) (fun e => hnext (fun _ => e))⟩)
    exact nm_r (nI_1 k) (nm_r (nI_1 i) (hJ (k + 1) (tw_oi_y hk (by omega) e)))
theorem xw_ov_o {post : Int32 → SX → Prop} (hm : m ≤ 16) (hn : n ≤ 48) (B : tw_BA pat brd m) (hp : ∀ k, tw_LO pat txt m n k → post (nI k) (nI m, nI n, fc, ft, fC, fT, fs, fk, pat, txt, wrd, plc, brd, fac)) :
    ∀ N i k, n < N + i → i ≤ n → tw_LO pat txt m i k → wX_overlap_8 post (nI m) (nI n) fc ft fC fT fs fk pat txt wrd plc brd fac N (nI k) (nI i) := by
  intro N
  induction N with
  | zero => intro i k h1 h2; omega
  | succ N ih =>
    intro i k h1 h2 h3
    have hkm := h3.1.1
    refine pk_le n i (fun z => ?_) (fun z => ?_)
    · have e : i = n := by omega
      subst e
      refine pk_eq m 0 (fun y => ?_) (fun _ => hp k h3)
      have k0 : k = 0 := by omega
      subst k0
      exact hp 0 h3
    · have J : ∀ k, tw_LO pat txt m (i + 1) k → wX_overlap_8 post (nI m) (nI n) fc ft fC fT fs fk pat txt wrd plc brd fac N (nI k) (nI (i + 1)) := fun k hk => ih (i + 1) k (by omega) (by omega) hk
      refine pk_eq k m (fun y => pk_eq m 0 (fun m0 => ?_) (fun m0 => ?_)) (fun y => ?_)
      · have k0 : k = 0 := by omega
        subst k0
        exact ⟨2, xw_ov_i hm hn z B J 0 2 0 (by omega) (tw_oi_0 h3) (Or.inr m0) (by omega)⟩
      · obtain ⟨c, c1, c2⟩ := B.2 m (by omega) (Nat.le_refl _)
        have := c2.1.1
        rw [nI_clamp (n := m) (by omega)]
        subst y
        exact ⟨pk_in k 17 (by omega), nm_r c1 ⟨c + 2, xw_ov_i hm hn z B J c (c + 2) 0 (by omega) (tw_oi_n (tw_oi_0 h3) (fun q => absurd q (by omega)) c2) (Or.inl (by omega)) (by omega)⟩⟩
      · exact ⟨k + 2, xw_ov_i hm hn z B J k (k + 2) 0 (by omega) (tw_oi_0 h3) (Or.inl (by omega)) (by omega)⟩
theorem xw_overlap {post : Int32 → SX → Prop} (hm : m ≤ 16) (hn : n ≤ 48) (hp : ∀ k br, tw_LO pat txt m n k → post (nI k) (nI m, nI n, fc, ft, fC, fT, fs, fk, pat, txt, wrd, plc, br, fac)) : wpX_overlap post (nI m, nI n, fc, ft, fC, fT, fs, fk, pat, txt, wrd, plc, brd, fac) := by
  refine xw_fb hm (fun br B => ?_)
  exact ⟨n + 1, xw_ov_o hm hn B (fun k hk => hp k br hk) (n + 1) 0 0 (by omega) (by omega) tw_lo_0⟩
end XB
end
section
section XR
variable {m n : Nat} {fc ft fC fT fs fk : Int32} {pat txt wrd plc brd fac : Nat → Int32}
/-! X: the least rotation -/
theorem tw_fl_ex (p : Nat → Int32) (m : Nat) : ∀ u, ∃ b, b < u + 1 ∧ tw_FLu p m b (u + 1) := by
  intro u
  induction u with
  | zero => exact ⟨0, by omega, fun a ha => absurd ha (by omega), fun a h1 h2 => absurd h2 (by omega)⟩
  | succ u ih =>
    obtain ⟨b, b1, b2⟩ := ih
    by_cases h : tw_RL p m (u + 1) b
    · exact ⟨u + 1, by omega, tw_fl_y b2 h⟩
    · exact ⟨b, by omega, tw_fl_n b2 h⟩
theorem xw_turned {post : Int32 → Prop} {a : Nat} (hm : m ≤ 16) (ha : a < m + m) (hp : post (pat (a % m))) : wpX_turned post (nI m, nI n, fc, ft, fC, fT, fs, fk, pat, txt, wrd, plc, brd, fac) (nI a) := by
  by_cases h : a < m
  · rw [Nat.mod_eq_of_lt h] at hp
    refine ⟨1, pk_le 3 0 (fun z => absurd z (by omega)) (fun _ => pk_lt a m (fun _ => ?_) (fun z => absurd z (by omega)))⟩
    rw [nI_clamp (n := a) (by omega)]
    exact ⟨pk_in a 16 (by omega), hp⟩
  · rw [Nat.mod_eq_sub_mod (by omega), Nat.mod_eq_of_lt (by omega)] at hp
    refine ⟨2, pk_le 3 0 (fun z => absurd z (by omega)) (fun _ => pk_lt a m (fun z => absurd z h) (fun _ => nm_r (pk_sub (by omega)) (nm_r (nI_1 0) ?_)))⟩
    refine pk_le 3 1 (fun z => absurd z (by omega)) (fun _ => pk_lt (a - m) m (fun _ => ?_) (fun z => absurd z (by omega)))
    rw [nI_clamp (n := a - m) (by omega)]
    exact ⟨pk_in (a - m) 16 (by omega), hp⟩
theorem xw_lr_l {post : Int32 → Prop} {L : Nat} (hm : m ≤ 16) (h0 : 0 < m) (hL : L < m) (f : tw_FLu pat m L m) (hp : post (nI L)) :
    ∀ N i j k rd, 100 < N + (i + j + k) → tw_RI pat m i j k → rd + 1 ≤ i + j + k → i ≤ 32 → j ≤ 34 → k ≤ m → wX_leastRotation_19 post (nI m) (nI n) fc ft fC fT fs fk pat txt wrd plc brd fac N (nI i) (nI j) (nI k) (nI rd) := by
  intro N
  induction N with
  | zero => intro i j k rd h1 h2 h3 h4 h5 h6; omega
  | succ N ih =>
    intro i j k rd h1 h2 h3 h4 h5 h6
    have hend : (m ≤ i ∨ m ≤ j ∨ m ≤ k) → wX_leastRotation_119 post (nI i) (nI j) (nI m) (nI n) fc ft fC fT fs fk pat txt wrd plc brd fac := fun g => by
      obtain ⟨e1, e2⟩ := tw_ri_end h0 h2 g hL f
      refine pk_le j i (fun z => ?_) (fun z => ?_)
      · rw [← e2 z]; exact hp
      · rw [← e1 z]; exact hp
    refine pk_le 80 rd (fun z => hend (by omega)) (fun _ => pk_le m i (fun z => hend (Or.inl z)) (fun hi => pk_le m j (fun z => hend (Or.inr (Or.inl z))) (fun hj => pk_le m k (fun z => hend (Or.inr (Or.inr z))) (fun hk => ?_))))
    rw [nI_add i k, nI_add j k]
    refine xw_turned hm (by omega) ?_
    refine xw_turned hm (by omega) ?_
    refine br_c (fun e => ?_) (fun e => ?_)
    · refine nm_r (nI_1 k) (nm_r (nI_1 rd) ?_)
      refine ih i j (k + 1) (rd + 1) (by omega) (tw_ri_e h2 ?_) (by omega) h4 h5 (by omega)
      unfold tw_R
      rw [e]
    · refine br_c (fun l => ?_) (fun l => ?_)
      · have lt : tw_R pat m i k < tw_R pat m j k := by
          unfold tw_R
          rw [Int32.le_iff_toInt_le] at l
          rw [← Int32.toInt_inj] at e
          omega
        obtain ⟨g1, g2⟩ := tw_ri_l h0 hk h2 lt
        refine nm_r (nI_1 (j + k)) (pk_eq i (j + k + 1) (fun z => ?_) (fun z => ?_))
        · refine nm_r (nI_1 (j + k + 1)) (nm_r (nI_1 rd) ?_)
          exact ih i (j + k + 1 + 1) 0 (rd + 1) (by omega) (g2 z) (by omega) h4 (by omega) (by omega)
        · refine nm_r (nI_1 rd) ?_
          exact ih i (j + k + 1) 0 (rd + 1) (by omega) (g1 z) (by omega) h4 (by omega) (by omega)
      · have lt : tw_R pat m j k < tw_R pat m i k := by
          unfold tw_R
          rw [Int32.le_iff_toInt_le] at l
          omega
        obtain ⟨g1, g2⟩ := tw_ri_g h0 hk h2 lt
        refine nm_r (nI_1 (i + k)) (pk_eq (i + k + 1) j (fun z => ?_) (fun z => ?_))
        · refine nm_r (nI_1 j) (nm_r (nI_1 rd) ?_)
          exact ih (i + k + 1) (j + 1) 0 (rd + 1) (by omega) (g2 z) (by omega) (by omega) (by omega) (by omega)
        · refine nm_r (nI_1 rd) ?_
          exact ih (i + k + 1) j 0 (rd + 1) (by omega) (g1 z) (by omega) (by omega) (by omega) (by omega)
theorem xw_leastRotation {post : Int32 → Prop} (hm : m ≤ 16) (h0 : m = 0 → post (-4)) (hp : ∀ L, L < m → tw_FLu pat m L m → post (nI L)) : wpX_leastRotation post (nI m, nI n, fc, ft, fC, fT, fs, fk, pat, txt, wrd, plc, brd, fac) := by
  refine pk_eq m 0 h0 (fun z => ?_)
  obtain ⟨L, L1, L2⟩ := tw_fl_ex pat m (m - 1)
  rw [show m - 1 + 1 = m by omega] at L1 L2
  exact ⟨100, xw_lr_l hm (by omega) L1 L2 (hp L L1 L2) 100 0 1 0 0 (by omega) (tw_ri_0 pat m) (by omega) (by omega) (by omega) (by omega)⟩
/-! X: the factors -/
def tw_FA (w : Nat → Int) (m c : Nat) (fa : Nat → Int32) : Prop := ∀ x, x < c → tw_st w m x < m ∧ tw_st w m x ≤ tw_st w m (x + 1) ∧ fa x = nI (tw_st w m (x + 1) - tw_st w m x)
theorem xw_cf_e {post : Int32 → SX → Prop} {J6 : Int32 → Int32 → Int32 → (Nat → Int32) → (Nat → Int32) → (Nat → Int32) → (Nat → Int32) → (Nat → Int32) → (Nat → Int32) → Prop} {q j i0 rd : Nat} (hm : m ≤ 16) (hq : 0 < q) (hj : j ≤ m) (hqj : q ≤ j) (hx : j = m ∨ tw_V pat j < tw_V pat (j - q))
    (hJ : ∀ c i fa, i0 < i → i ≤ m → i = tw_st (tw_V pat) m c → c ≤ i → tw_FA (tw_V pat) m c fa → J6 (nI c) (nI i) (nI (rd + 1)) pat txt wrd plc brd fa) :
    ∀ N c i st fa, m < N + i → i ≤ j → st ≤ i → i = tw_st (tw_V pat) m c → c ≤ i → tw_FA (tw_V pat) m c fa → (i + q ≤ j → tw_LR (tw_V pat) i q j) → (i0 < i ∨ (i0 = i ∧ i + q ≤ j)) →
      wX_cutFactors_110 post J6 (nI rd) (nI (j - q)) (nI q) (nI m) (nI n) fc ft fC fT fs fk N (nI c) (nI i) (nI st) pat txt wrd plc brd fa := by
  intro N
  induction N with
  | zero => intro c i st fa h1 h2; omega
  | succ N ih =>
    intro c i st fa h1 h2 h3 h4 h5 h6 h7 h8
    have hend : j - q < i → J6 (nI c) (nI i) (nI (rd + 1)) pat txt wrd plc brd fa := fun z => hJ c i fa (by omega) (by omega) h4 h5 h6
    refine pk_le 16 st (fun z => nm_r (nI_1 rd) (hend (by omega))) (fun _ => pk_lt (j - q) i (fun z => nm_r (nI_1 rd) (hend z)) (fun z => ?_))
    have R := h7 (by omega)
    have E := tw_dv R hj hx
    rw [h4] at E
    have e2 : tw_st (tw_V pat) m (c + 1) = i + q := by rw [tw_st_s E, ← h4]
    rw [nI_clamp (n := c) (by omega)]
    refine ⟨pk_in c 16 (by omega), nm_e (nm_r (nI_1 c) (nm_r (nI_add i q) (nm_r (nI_1 st) ?_)))⟩
    refine ih (c + 1) (i + q) (st + 1) _ (by omega) (by omega) (by omega) e2.symm (by omega) (fun x hx2 => ?_) (fun y => tw_LR_sh R y) (Or.inl (by omega))
    by_cases y : x = c
    · subst y
      rw [pk_us, e2, ← h4]
      exact ⟨by omega, by omega, congrArg nI (by omega)⟩
    · rw [pk_un y]
      exact h6 x (by omega)
theorem xw_cf_i {post : Int32 → SX → Prop} {J6 : Int32 → Int32 → Int32 → (Nat → Int32) → (Nat → Int32) → (Nat → Int32) → (Nat → Int32) → (Nat → Int32) → (Nat → Int32) → Prop} {c i rd : Nat} (hm : m ≤ 16) (hi : i < m) (hc : i = tw_st (tw_V pat) m c) (hci : c ≤ i) (hF : tw_FA (tw_V pat) m c fac)
    (hJ : ∀ c i' fa, i < i' → i' ≤ m → i' = tw_st (tw_V pat) m c → c ≤ i' → tw_FA (tw_V pat) m c fa → J6 (nI c) (nI i') (nI (rd + 1)) pat txt wrd plc brd fa) :
    ∀ N j q st, m < N + j → j ≤ m → st + i + 1 ≤ j → tw_LR (tw_V pat) i q j → wX_cutFactors_31 post J6 (nI c) (nI i) (nI rd) (nI m) (nI n) fc ft fC fT fs fk pat txt wrd plc brd fac N (nI j) (nI (j - q)) (nI st) := by
  intro N
  induction N with
  | zero => intro j q st h1 h2; omega
  | succ N ih =>
    intro j q st h1 h2 h3 h4
    have q0 := h4.1
    have q1 := h4.2.1
    have hend : (j = m ∨ tw_V pat j < tw_V pat (j - q)) → ∀ y : Int32, y = nI j - nI (j - q) → ∃ n110 : Nat, wX_cutFactors_110 post J6 (nI rd) (nI (j - q)) y (nI m) (nI n) fc ft fC fT fs fk n110 (nI c) (nI i) 0 pat txt wrd plc brd fac := fun z => by
      refine nm_r (e' := nI q) (by rw [pk_sub (by omega)]; exact congrArg nI (by omega)) ⟨17, ?_⟩
      exact xw_cf_e hm q0 h2 (by omega) z hJ 17 c i 0 fac (by omega) (by omega) (by omega) hc hci hF (fun _ => h4) (Or.inr ⟨rfl, q1⟩)
    refine pk_le 16 st (fun z => absurd z (by omega)) (fun _ => pk_le m j (fun z => hend (Or.inl (by omega))) (fun z => ?_))
    rw [nI_clamp (n := j) (by omega), nI_clamp (n := j - q) (by omega)]
    refine ⟨pk_in (j - q) 16 (by omega), pk_in j 16 (by omega), br_c (fun e => hend (Or.inr (Int32.lt_iff_toInt_lt.mp e))) (fun e => ⟨pk_in (j - q) 16 (by omega), pk_in j 16 (by omega), br_c (fun g => ?_) (fun g => ?_)⟩)⟩
    · have eq : tw_V pat (j - q) = tw_V pat j := by
        unfold tw_V
        rw [Int32.lt_iff_toInt_lt] at e
        rw [Int32.le_iff_toInt_le] at g
        omega
      refine nm_r (e' := nI (j + 1 - q)) (by rw [nI_1]; exact congrArg nI (by omega)) (nm_r (nI_1 j) (nm_r (nI_1 st) ?_))
      exact ih (j + 1) q (st + 1) (by omega) (by omega) (by omega) (tw_step_eq h4 eq)
    · have lt : tw_V pat (j - q) < tw_V pat j := by
        unfold tw_V
        rw [Int32.le_iff_toInt_le] at g
        omega
      refine nm_r (nI_1 j) (nm_r (nI_1 st) ?_)
      have := ih (j + 1) (j + 1 - i) (st + 1) (by omega) (by omega) (by omega) (tw_step_gt h4 lt)
      rw [show j + 1 - (j + 1 - i) = i by omega] at this
      exact this
theorem xw_cf_o {post : Int32 → SX → Prop} (hm : m ≤ 16) (hp : ∀ c fa, tw_st (tw_V pat) m c = m → tw_FA (tw_V pat) m c fa → c ≤ m → post (nI c) (nI m, nI n, fc, ft, fC, fT, fs, fk, pat, txt, wrd, plc, brd, fa)) :
    ∀ N c i rd fa, m < N + i → i ≤ m → rd ≤ i → i = tw_st (tw_V pat) m c → c ≤ i → tw_FA (tw_V pat) m c fa → wX_cutFactors_6 post (nI m) (nI n) fc ft fC fT fs fk N (nI c) (nI i) (nI rd) pat txt wrd plc brd fa := by
  intro N
  induction N with
  | zero => intro c i rd fa h1 h2; omega
  | succ N ih =>
    intro c i rd fa h1 h2 h3 h4 h5 h6
    have hend : m ≤ i → post (nI c) (nI m, nI n, fc, ft, fC, fT, fs, fk, pat, txt, wrd, plc, brd, fa) := fun z => hp c fa (by omega) h6 (by omega)
    refine pk_le 16 rd (fun z => hend (by omega)) (fun _ => pk_le m i hend (fun z => nm_r (nI_1 i) ⟨17, ?_⟩))
    have := xw_cf_i (post := post) (J6 := wX_cutFactors_6 post (nI m) (nI n) fc ft fC fT fs fk N) (fac := fa) (txt := txt) (wrd := wrd) (plc := plc) (brd := brd) (c := c) (rd := rd) (n := n) (fc := fc) (ft := ft) (fC := fC) (fT := fT) (fs := fs) (fk := fk) hm z h4 h5 h6 (fun c' i' fa' a1 a2 a3 a4 a5 => ih c' i' (rd + 1) fa' (by omega) a2 (by omega) a3 a4 a5) 17 (i + 1) 1 0 (by omega) (by omega) (by omega) (tw_LR_1 _ i)
    exact this
theorem xw_cutFactors {post : Int32 → SX → Prop} (hm : m ≤ 16) (hp : ∀ c fa, tw_st (tw_V pat) m c = m → tw_FA (tw_V pat) m c fa → c ≤ m → post (nI c) (nI m, nI n, fc, ft, fC, fT, fs, fk, pat, txt, wrd, plc, brd, fa)) : wpX_cutFactors post (nI m, nI n, fc, ft, fC, fT, fs, fk, pat, txt, wrd, plc, brd, fac) :=
  ⟨17, xw_cf_o hm hp 17 0 0 0 fac (by omega) (by omega) (by omega) rfl (by omega) (fun x hx => absurd hx (by omega))⟩
/-! X: what is read off the places -/
theorem xw_next_l {post : Int32 → SX → Prop} {P : Nat → Prop} {c : Nat} {fr : Int32} (hn : n ≤ 48) (H : tw_PL P n c plc)
    (hp1 : ∀ i, i < n → P i → ¬ nI i < fr → (∀ x, x < i → P x → nI x < fr) → post (nI i) (nI m, nI n, fc, ft, fC, fT, fs, nI c, pat, txt, wrd, plc, brd, fac)) (hp2 : (∀ i, i < n → P i → nI i < fr) → post (-4) (nI m, nI n, fc, ft, fC, fT, fs, nI c, pat, txt, wrd, plc, brd, fac)) :
    ∀ N a, n < N + a → a ≤ n → (∀ x, x < a → P x → nI x < fr) → wX_next_6 post fr (nI m) (nI n) fc ft fC fT fs (nI c) pat txt wrd plc brd fac (N + 1) (nI (tw_cnt P a)) := by
  have hc : c ≤ n := by rw [H.1]; exact tw_cnt_le P n
  intro N
  induction N with
  | zero => intro a h1 h2; omega
  | succ N ih =>
    intro a h1 h2 h3
    have ha := tw_cnt_le P a
    rcases tw_nx H a h2 with ⟨g1, g2⟩ | ⟨j, j1, j2, j3, j4, j5, j6, j7, j8⟩
    · refine pk_le c (tw_cnt P a) (fun _ => hp2 (fun i i1 i2 => ?_)) (fun z => absurd z (by omega))
      by_cases q : i < a
      · exact h3 i q i2
      · exact absurd i2 (g2 i (by omega) i1)
    · refine pk_le c (tw_cnt P a) (fun z => absurd z (by omega)) (fun _ => ?_)
      rw [nI_clamp (n := tw_cnt P a) (by omega), j7]
      have K : ∀ x, x < j → P x → nI x < fr := fun x x1 x2 => by
        by_cases q : x < a
        · exact h3 x q x2
        · exact absurd x2 (j4 x (by omega) x1)
      refine ⟨pk_in (tw_cnt P a) 48 (by omega), br_c (fun e => ?_) (fun e => ⟨pk_in (tw_cnt P a) 48 (by omega), hp1 j j2 j3 e K⟩)⟩
      refine nm_r ((nI_1 _).trans (congrArg nI j6.symm)) ?_
      refine ih (j + 1) (by omega) (by omega) (fun x x1 x2 => ?_)
      by_cases q : x = j
      · rw [q]; exact e
      · exact K x (by omega) x2
theorem xw_apart_l {post : Int32 → SX → Prop} {P : Nat → Prop} {c : Nat} (hm : m ≤ 16) (hn : n ≤ 48) (hP : ∀ i, P i → i < n) (h0 : ∀ i, P i → 0 < m) (hP2 : ∀ i, P i → i + m ≤ n) (H : tw_PL P n c plc) :
    ∀ N a g f, n < N + a → a ≤ n → f ≤ n → post (nI (g + tw_ga P m (max a f))) (nI m, nI n, fc, ft, fC, fT, fs, nI c, pat, txt, wrd, plc, brd, fac) → wX_apart_10 post (nI m) (nI n) fc ft fC fT fs (nI c) pat txt wrd plc brd fac (N + 1) (nI g) (nI f) (nI (tw_cnt P a)) := by
  have hc : c ≤ n := by rw [H.1]; exact tw_cnt_le P n
  intro N
  induction N with
  | zero => intro a g f h1 h2; omega
  | succ N ih =>
    intro a g f h1 h2 h4 hp
    have ha := tw_cnt_le P a
    rcases tw_nx H a h2 with ⟨g1, g2⟩ | ⟨j, j1, j2, j3, j4, j5, j6, j7, j8⟩
    · refine pk_le c (tw_cnt P a) (fun _ => ?_) (fun z => absurd z (by omega))
      have e : tw_ga P m (max a f) = 0 := by
        rw [tw_ga_none hP h0 hn (b := n) (by omega) (fun i i1 i2 => g2 i (by omega) i2), tw_ga_0 hP (Nat.le_refl _)]
      rw [e] at hp
      exact hp
    · refine pk_le c (tw_cnt P a) (fun z => absurd z (by omega)) (fun _ => ?_)
      rw [nI_clamp (n := tw_cnt P a) (by omega), j7]
      have j9 := hP2 j j3
      have j0 := h0 j j3
      refine ⟨pk_in (tw_cnt P a) 48 (by omega), pk_lt j f (fun z => ?_) (fun z => ?_)⟩
      · refine nm_r ((nI_1 _).trans (congrArg nI j6.symm)) ?_
        refine ih (j + 1) g f (by omega) (by omega) h4 ?_
        rw [show max (j + 1) f = max a f by omega]
        exact hp
      · refine nm_r (nI_1 g) ⟨pk_in (tw_cnt P a) 48 (by omega), nm_r (nI_add j m) (nm_r ((nI_1 _).trans (congrArg nI j6.symm)) ?_)⟩
        have e : tw_ga P m (max a f) = 1 + tw_ga P m (j + m) := by
          rw [tw_ga_none hP h0 hn (b := j) (by omega) (fun i i1 i2 => j4 i (by omega) i2), tw_ga_y hP h0 hn j3]
        refine ih (j + 1) (g + 1) (j + m) (by omega) (by omega) (by omega) ?_
        rw [show max (j + 1) (j + m) = j + m by omega, show g + 1 + tw_ga P m (j + m) = g + tw_ga P m (max a f) by omega]
        exact hp
def tw_Cov (P : Nat → Prop) (m x : Nat) : Prop := ∃ i, P i ∧ i ≤ x ∧ x < i + m
theorem xw_cov_l {post : Int32 → SX → Prop} {P : Nat → Prop} {c : Nat} (hm : m ≤ 16) (hn : n ≤ 48) (hP : ∀ i, P i → i < n) (h0 : ∀ i, P i → 0 < m) (hP2 : ∀ i, P i → i + m ≤ n) (H : tw_PL P n c plc) (hp : post (nI (tw_cnt (tw_Cov P m) n)) (nI m, nI n, fc, ft, fC, fT, fs, nI c, pat, txt, wrd, plc, brd, fac)) :
    ∀ N a f, n < N + a → a ≤ n → f ≤ n → f ≤ a + m → (∀ i, i < a → P i → i + m ≤ f) → wX_covered_10 post (nI m) (nI n) fc ft fC fT fs (nI c) pat txt wrd plc brd fac (N + 1) (nI (tw_cnt (tw_Cov P m) f)) (nI f) (nI (tw_cnt P a)) := by
  have hc : c ≤ n := by rw [H.1]; exact tw_cnt_le P n
  intro N
  induction N with
  | zero => intro a f h1 h2; omega
  | succ N ih =>
    intro a f h1 h2 h3 h4 h5
    have ha := tw_cnt_le P a
    rcases tw_nx H a h2 with ⟨g1, g2⟩ | ⟨j, j1, j2, j3, j4, j5, j6, j7, j8⟩
    · refine pk_le c (tw_cnt P a) (fun _ => ?_) (fun z => absurd z (by omega))
      have e : tw_cnt (tw_Cov P m) n = tw_cnt (tw_Cov P m) f := tw_cnt_none h3 (fun x x1 x2 ⟨i, i1, i2, i3⟩ => by
        by_cases q : i < a
        · have := h5 i q i1
          omega
        · exact g2 i (by omega) (hP i i1) i1)
      rw [e] at hp
      exact hp
    · refine pk_le c (tw_cnt P a) (fun z => absurd z (by omega)) (fun _ => ?_)
      have j9 := hP2 j j3
      have j0 := h0 j j3
      have hb := tw_cnt_le (tw_Cov P m) f
      have N1 : ∀ x, f ≤ x → x < j → ¬ tw_Cov P m x := fun x x1 x2 ⟨i, i1, i2, i3⟩ => by
        by_cases q : i < a
        · have := h5 i q i1
          omega
        · exact j4 i (by omega) (by omega) i1
      have e1 : tw_cnt (tw_Cov P m) (max j f) = tw_cnt (tw_Cov P m) f := tw_cnt_none (by omega) (fun x x1 x2 => N1 x x1 (by omega))
      have e2 : tw_cnt (tw_Cov P m) (j + m) = tw_cnt (tw_Cov P m) (max j f) + (j + m - max j f) := tw_cnt_all (by omega) (fun x x1 x2 => ⟨j, j3, by omega, x2⟩)
      have J : ∀ z0 : Nat, z0 = max j f → wX_covered_38 post (wX_covered_10 post (nI m) (nI n) fc ft fC fT fs (nI c) pat txt wrd plc brd fac (N + 1)) (nI (tw_cnt (tw_Cov P m) f)) (nI (tw_cnt P a)) (nI z0) (nI m) (nI n) fc ft fC fT fs (nI c) pat txt wrd plc brd fac := fun z0 hz => by
        unfold wX_covered_38
        rw [nI_clamp (n := tw_cnt P a) (by omega), j7]
        refine ⟨pk_in (tw_cnt P a) 48 (by omega), nm_r (e' := nI (tw_cnt (tw_Cov P m) (j + m))) ?_ ⟨pk_in (tw_cnt P a) 48 (by omega), nm_r (nI_add j m) (nm_r ((nI_1 _).trans (congrArg nI j6.symm)) ?_)⟩⟩
        · rw [nI_add, nI_add, pk_sub (by omega)]
          exact congrArg nI (by omega)
        · refine ih (j + 1) (j + m) (by omega) (by omega) (by omega) (by omega) (fun i i1 i2 => ?_)
          by_cases q : i < a
          · have := h5 i q i2
            omega
          · by_cases q2 : i = j
            · omega
            · exact absurd i2 (j4 i (by omega) (by omega))
      rw [nI_clamp (n := tw_cnt P a) (by omega), j7]
      exact ⟨pk_in (tw_cnt P a) 48 (by omega), pk_le j f (fun z => J f (by omega)) (fun z => ⟨pk_in (tw_cnt P a) 48 (by omega), J j (by omega)⟩)⟩
/-! X: the rotations that are found -/
def tw_Fo (p T : Nat → Int32) (m n s : Nat) : Prop := ∃ i, tw_O (tw_rot p m s) T m n i
theorem xw_rf_l {post : Int32 → SX → Prop} (hm : m ≤ 16) (hn : n ≤ 48) (hp : ∀ c t x y w, post (nI (tw_cnt (tw_Fo pat txt m n) m)) (nI m, nI n, c, t, x, y, fs, fk, pat, txt, w, plc, brd, fac)) :
    ∀ N s c t x y w, m < N + s → s ≤ m → wX_rotationsFound_4 post N (nI (tw_cnt (tw_Fo pat txt m n) s)) (nI s) (nI m) (nI n) c t x y fs fk pat txt w plc brd fac := by
  intro N
  induction N with
  | zero => intro s c t x y w h1 h2; omega
  | succ N ih =>
    intro s c t x y w h1 h2
    refine pk_le m s (fun z => ?_) (fun z => ?_)
    · have e : s = m := by omega
      subst e
      exact hp c t x y w
    · refine xw_rot hm z (fun w' hw => ?_)
      refine xw_cutWord hm (by omega) (fun c' t' x' y' C => ?_)
      refine xw_search (fr := 0) hm hn C (by omega) (fun j j1 j2 j3 => ?_) (fun j1 => ?_)
      · have F : tw_Fo pat txt m n s := ⟨j, tw_O_cg hw j2⟩
        have jl := tw_O_lt j2
        refine br_f (nI_pos (by omega)) (nm_r ((nI_1 _).trans (congrArg nI (tw_cnt_y F).symm)) (nm_r (nI_1 s) ?_))
        exact ih (s + 1) _ _ _ _ _ (by omega) (by omega)
      · have F : ¬ tw_Fo pat txt m n s := fun ⟨i, o⟩ => j1 i (by omega) (tw_O_cg (fun k hk => (hw k hk).symm) o)
        refine br_t tw_n1 (nm_r (nI_1 s) ?_)
        have := ih (s + 1) (nI c') (nI t') x' y' w' (by omega) (by omega)
        rw [tw_cnt_n F] at this
        exact this
end XR
end
section
section YO
variable {m n : Nat} {pat txt mo : Nat → Int32}
/-! Y: the pattern stands at a place -/
theorem tw_lesub {i n m : Nat} (hi : i < 2 ^ 29) (hn : n < 2 ^ 29) (hm : m < 2 ^ 29) : nI i ≤ nI n - nI m ↔ i + m ≤ n := by
  rw [Int32.le_iff_toInt_le, pk_sub_toInt (by omega) (by omega), nI_toInt (by omega)]
  omega
theorem yw_st_l {post : Int32 → Prop} {i s : Nat} (hm : m ≤ 16) (hn : n ≤ 48) (hi : i + m ≤ n) (hs : s < m) (h1 : tw_O (tw_rot pat m s) txt m n i → post 1) (h0 : ¬ tw_O (tw_rot pat m s) txt m n i → post 0) :
    ∀ N k, m < N + k → k ≤ m → (∀ x, x < k → txt (i + x) = tw_rot pat m s x) → wY_standsAt_28 post (nI i) (nI s) (nI m) (nI n) pat txt mo N (nI k) := by
  intro N
  induction N with
  | zero => intro k h1 h2; omega
  | succ N ih =>
    intro k g1 g2 g3
    refine pk_le m k (fun z => h1 ⟨by omega, hi, fun x hx => g3 x (by omega)⟩) (fun z => ?_)
    have md := Nat.mod_lt (s + k) (show m > 0 by omega)
    rw [nI_add i k, nI_add s k, pk_rem (a := s + k) (d := m) (by omega) (by omega) (by omega), nI_clamp (n := i + k) (by omega), nI_clamp (n := (s + k) % m) (by omega)]
    refine ⟨pk_in (i + k) 48 (by omega), nI_ne0 (by omega) (by omega), pk_in ((s + k) % m) 16 (by omega), br_c (fun e => nm_r (nI_1 k) ?_) (fun e => h0 (fun o => e (o.2.2 k z)))⟩
    refine ih (k + 1) (by omega) (by omega) (fun x hx => ?_)
    by_cases q : x = k
    · rw [q]; exact e
    · exact g3 x (by omega)
theorem yw_st {post : Int32 → Prop} {i s : Nat} (hm : m ≤ 16) (hn : n ≤ 48) (hi : i ≤ 100) (hs : 0 < m → s < m) (h1 : tw_O (tw_rot pat m s) txt m n i → post 1) (h0 : ¬ tw_O (tw_rot pat m s) txt m n i → post 0) : wpY_standsAt post (nI m, nI n, pat, txt, mo) (nI i) (nI s) := by
  refine pk_eq m 0 (fun z => h0 (fun o => absurd o.1 (by omega))) (fun z => br_f (nI_pos (by omega)) ?_)
  by_cases q : i + m ≤ n
  · exact br_t ((tw_lesub (by omega) (by omega) (by omega)).mpr q) ⟨m + 1, yw_st_l hm hn q (hs (by omega)) h1 h0 (m + 1) 0 (by omega) (by omega) (fun x hx => absurd hx (by omega))⟩
  · exact br_f (fun y => q ((tw_lesub (by omega) (by omega) (by omega)).mp y)) (h0 (fun o => q o.2.1))
theorem tw_rot0 {i : Nat} : tw_O (tw_rot pat m 0) txt m n i ↔ tw_O pat txt m n i := by
  have h : ∀ k, k < m → tw_rot pat m 0 k = pat k := fun k hk => by
    show pat ((0 + k) % m) = _
    rw [Nat.zero_add, Nat.mod_eq_of_lt hk]
  exact ⟨tw_O_cg h, tw_O_cg (fun k hk => (h k hk).symm)⟩
theorem yw_st0 {post : Int32 → Prop} {i : Nat} (hm : m ≤ 16) (hn : n ≤ 48) (hi : i ≤ 100) (h1 : tw_O pat txt m n i → post 1) (h0 : ¬ tw_O pat txt m n i → post 0) : wpY_standsAt post (nI m, nI n, pat, txt, mo) (nI i) 0 :=
  yw_st (s := 0) hm hn hi (fun h => h) (fun o => h1 (tw_rot0.mp o)) (fun o => h0 (fun y => o (tw_rot0.mpr y)))
theorem yw_stn {post : Int32 → Prop} {p0 s : Int32} (hp : p0 < 0) (h0 : post 0) : wpY_standsAt post (nI m, nI n, pat, txt, mo) p0 s := by
  refine br_c (fun _ => h0) (fun _ => br_t hp h0)
/-! Y: occurrences -/
theorem yw_occ_l {post : Int32 → Prop} (hm : m ≤ 16) (hn : n ≤ 48) (hp : post (nI (tw_cnt (tw_O pat txt m n) n))) :
    ∀ N a, n < N + a → a ≤ n → wY_occurrences_4 post (nI m) (nI n) pat txt mo N (nI (tw_cnt (tw_O pat txt m n) a)) (nI a) := by
  intro N
  induction N with
  | zero => intro a h1 h2; omega
  | succ N ih =>
    intro a h1 h2
    refine pk_le n a (fun z => ?_) (fun z => yw_st0 hm hn (by omega) (fun o => br_f tw_10 ?_) (fun o => br_t rfl ?_))
    · have e : a = n := by omega
      subst e
      exact hp
    · exact nm_r ((nI_1 _).trans (congrArg nI (tw_cnt_y o).symm)) (nm_r (nI_1 a) (ih (a + 1) (by omega) (by omega)))
    · refine nm_r (nI_1 a) ?_
      have := ih (a + 1) (by omega) (by omega)
      rw [tw_cnt_n o] at this
      exact this
theorem yw_occ {post : Int32 → Prop} (hm : m ≤ 16) (hn : n ≤ 48) (hp : post (nI (tw_cnt (tw_O pat txt m n) n))) : wpY_occurrences post (nI m, nI n, pat, txt, mo) :=
  ⟨n + 1, yw_occ_l hm hn hp (n + 1) 0 (by omega) (by omega)⟩
theorem yw_next_l {post : Int32 → Prop} {fr : Int32} (hm : m ≤ 16) (hn : n ≤ 48)
    (hp1 : ∀ i, i < n → tw_O pat txt m n i → ¬ nI i < fr → (∀ x, x < i → tw_O pat txt m n x → nI x < fr) → post (nI i)) (hp2 : (∀ i, i < n → tw_O pat txt m n i → nI i < fr) → post (-4)) :
    ∀ N a, n < N + a → a ≤ n → (∀ x, x < a → tw_O pat txt m n x → nI x < fr) → wY_next_2 post fr (nI m) (nI n) pat txt mo N (nI a) := by
  intro N
  induction N with
  | zero => intro a h1 h2; omega
  | succ N ih =>
    intro a h1 h2 h3
    refine pk_le n a (fun z => hp2 (fun i i1 i2 => h3 i (by omega) i2)) (fun z => br_c (fun y => nm_r (nI_1 a) ?_) (fun y => yw_st0 hm hn (by omega) (fun o => br_f tw_10 (hp1 a z o y h3)) (fun o => br_t rfl (nm_r (nI_1 a) ?_))))
    · refine ih (a + 1) (by omega) (by omega) (fun x x1 x2 => ?_)
      by_cases q : x = a
      · rw [q]; exact y
      · exact h3 x (by omega) x2
    · refine ih (a + 1) (by omega) (by omega) (fun x x1 x2 => ?_)
      by_cases q : x = a
      · rw [q] at x2; exact absurd x2 o
      · exact h3 x (by omega) x2
theorem yw_next {post : Int32 → Prop} {fr : Int32} (hm : m ≤ 16) (hn : n ≤ 48)
    (hp1 : ∀ i, i < n → tw_O pat txt m n i → ¬ nI i < fr → (∀ x, x < i → tw_O pat txt m n x → nI x < fr) → post (nI i)) (hp2 : (∀ i, i < n → tw_O pat txt m n i → nI i < fr) → post (-4)) : wpY_next post (nI m, nI n, pat, txt, mo) fr :=
  ⟨n + 1, yw_next_l hm hn hp1 hp2 (n + 1) 0 (by omega) (by omega) (fun x hx => absurd hx (by omega))⟩
theorem yw_ap_j {post : Int32 → SY → Prop} {J28 : Int32 → (Nat → Int32) → (Nat → Int32) → (Nat → Int32) → Prop} {i z y : Nat} (hi : i < 48) (hz : z ≤ 100) (hy : y ≤ 100) (e : mo (i + 1) = nI y) (hJ : J28 (nI i - 1) pat txt (upd mo i (nI (max z y)))) : wY_apart_58 post J28 (nI i) (nI z) (nI m) (nI n) pat txt mo := by
  unfold wY_apart_58
  rw [nI_1 i, nI_clamp (n := i + 1) (by omega), nI_clamp (n := i) (by omega), e]
  refine ⟨pk_in (i + 1) 65 (by omega), pk_le z y (fun l => ⟨pk_in (i + 1) 65 (by omega), pk_in i 65 (by omega), nm_e (nm_r (tw_dec1 i) ?_)⟩) (fun l => ⟨pk_in i 65 (by omega), nm_e (nm_r (tw_dec1 i) ?_)⟩)⟩
  · rw [show max z y = y by omega] at hJ
    exact hJ
  · rw [show max z y = z by omega] at hJ
    exact hJ
theorem yw_ap_l {post : Int32 → SY → Prop} (hm : m ≤ 16) (hn : n ≤ 48) (hp : ∀ mo', post (nI (tw_ga (tw_O pat txt m n) m 0)) (nI m, nI n, pat, txt, mo')) :
    ∀ i N mo', i < N → i ≤ n → (∀ x, i ≤ x → x < 65 → mo' x = nI (tw_ga (tw_O pat txt m n) m x)) → wY_apart_28 post (nI m) (nI n) N (nI i - 1) pat txt mo' := by
  have hP : ∀ i, tw_O pat txt m n i → i < n := fun i o => tw_O_lt o
  have h0 : ∀ i, tw_O pat txt m n i → 0 < m := fun i o => o.1
  have bd : ∀ x, tw_ga (tw_O pat txt m n) m x ≤ 48 := fun x => by
    by_cases q : n ≤ x
    · rw [tw_ga_0 hP q]; omega
    · have := tw_ga_le hP h0 hn (n - x) x (by omega)
      omega
  intro i
  induction i with
  | zero =>
    intro N mo' hN h1 h2
    obtain ⟨N, rfl⟩ : ∃ N', N = N' + 1 := ⟨N - 1, by omega⟩
    refine br_t (by decide) ?_
    rw [h2 0 (by omega) (by omega)]
    exact hp mo'
  | succ i ih =>
    intro N mo' hN h1 h2
    obtain ⟨N, rfl⟩ : ∃ N', N = N' + 1 := ⟨N - 1, by omega⟩
    rw [nI_pred i]
    have K : ∀ z, z ≤ 100 → max z (tw_ga (tw_O pat txt m n) m (i + 1)) = tw_ga (tw_O pat txt m n) m i → wY_apart_58 post (wY_apart_28 post (nI m) (nI n) N) (nI i) (nI z) (nI m) (nI n) pat txt mo' := fun z hz e => by
      refine yw_ap_j (by omega) hz (by have := bd (i + 1); omega) (h2 (i + 1) (by omega) (by omega)) ?_
      rw [e]
      refine ih N _ (by omega) (by omega) (fun x x1 x2 => ?_)
      by_cases q : x = i
      · rw [q, pk_us]
      · rw [pk_un q]; exact h2 x (by omega) x2
    refine br_f (nI_pos (by omega)) (yw_st0 hm hn (by omega) (fun o => br_f tw_10 ?_) (fun o => br_t rfl ?_))
    · have om := o.2.1
      rw [nI_add i m, nI_clamp (n := i + m) (by omega), h2 (i + m) (by have := o.1; omega) (by omega)]
      refine ⟨pk_in (i + m) 65 (by omega), ?_⟩
      have := K (1 + tw_ga (tw_O pat txt m n) m (i + m)) (by have := bd (i + m); omega) (by
        have := tw_ga_max hP h0 hn o
        rw [tw_ga_y hP h0 hn o]
        omega)
      rw [← nI_add 1] at this
      exact this
    · exact K 0 (by omega) (by rw [tw_ga_n hP h0 hn o]; omega)
theorem yw_ap_0 {post : Int32 → SY → Prop} (hm : m ≤ 16) (hn : n ≤ 48) (hp : ∀ mo', post (nI (tw_ga (tw_O pat txt m n) m 0)) (nI m, nI n, pat, txt, mo')) :
    ∀ N i mo', 65 < N + i → i ≤ 65 → (∀ x, x < i → mo' x = 0) → wY_apart_2 post (nI m) (nI n) N (nI i) pat txt mo' := by
  intro N
  induction N with
  | zero => intro i mo' h1 h2; omega
  | succ N ih =>
    intro i mo' h1 h2 h3
    refine pk_le 65 i (fun z => nm_e ⟨n + 1, yw_ap_l hm hn hp n (n + 1) mo' (by omega) (by omega) (fun x x1 x2 => ?_)⟩) (fun z => ?_)
    · rw [h3 x (by omega), tw_ga_0 (fun i o => tw_O_lt o) x1]
      rfl
    · rw [nI_clamp (n := i) (by omega)]
      refine ⟨pk_in i 65 (by omega), nm_e (nm_r (nI_1 i) (ih (i + 1) _ (by omega) (by omega) (fun x hx => ?_)))⟩
      by_cases q : x = i
      · rw [q, pk_us]
      · rw [pk_un q]; exact h3 x (by omega)
theorem yw_apart {post : Int32 → SY → Prop} (hm : m ≤ 16) (hn : n ≤ 48) (hp : ∀ mo', post (nI (tw_ga (tw_O pat txt m n) m 0)) (nI m, nI n, pat, txt, mo')) : wpY_apart post (nI m, nI n, pat, txt, mo) :=
  ⟨66, yw_ap_0 hm hn hp 66 0 mo (by omega) (by omega) (fun x hx => absurd hx (by omega))⟩
/-! Y: what is covered -/
theorem tw_msub (a m : Nat) : nI a - nI m + 1 = nI (a + 1) - nI m := by
  rw [← nI_1, Int32.sub_eq_add_neg, Int32.sub_eq_add_neg, Int32.add_assoc, Int32.add_assoc, Int32.add_comm (-nI m)]
theorem yw_ic_l {post : Int32 → Prop} {x : Nat} (hm : m ≤ 16) (hn : n ≤ 48) (hx : x < n) (h1 : tw_Cov (tw_O pat txt m n) m x → post 1) (h0 : ¬ tw_Cov (tw_O pat txt m n) m x → post 0) :
    ∀ N c, x + m + 1 < N + c → x + 1 ≤ c → c ≤ x + m + 1 → (∀ i, tw_O pat txt m n i → x < i + m → i + m < c → False) → wY_isCovered_9 post (nI x) (nI m) (nI n) pat txt mo N (nI c - nI m) := by
  intro N
  induction N with
  | zero => intro c h1 h2 h3; omega
  | succ N ih =>
    intro c g1 gx g2 g3
    by_cases hc : c < m
    · have neg := pk_sneg (a := c) (b := m) (by omega) hc
      refine br_f (fun z => ?_) (yw_stn neg (br_t rfl (nm_r (tw_msub c m) ?_)))
      · rw [Int32.lt_iff_toInt_lt] at z neg
        rw [nI_toInt (by omega)] at z
        have : (0 : Int32).toInt = 0 := by decide
        omega
      · exact ih (c + 1) (by omega) (by omega) (by omega) (fun i o i1 i2 => by
          by_cases q : i + m = c
          · omega
          · exact g3 i o i1 (by omega))
    · rw [pk_sub (a := c) (b := m) (by omega)]
      refine pk_lt x (c - m) (fun z => h0 (fun ⟨i, i1, i2, i3⟩ => g3 i i1 i3 (by omega))) (fun z => yw_st0 hm hn (by omega) (fun o => br_f tw_10 (h1 ?_)) (fun o => br_t rfl ?_))
      · exact ⟨c - m, o, z, by omega⟩
      · refine nm_r (e' := nI (c + 1) - nI m) (by rw [nI_1, pk_sub (by omega)]; exact congrArg nI (by omega)) ?_
        exact ih (c + 1) (by omega) (by omega) (by omega) (fun i o' i1 i2 => by
          by_cases q : i + m = c
          · rw [show c - m = i by omega] at o
            exact o o'
          · exact g3 i o' i1 (by omega))
theorem yw_ic {post : Int32 → Prop} {x : Nat} (hm : m ≤ 16) (hn : n ≤ 48) (hx : x < n) (h1 : tw_Cov (tw_O pat txt m n) m x → post 1) (h0 : ¬ tw_Cov (tw_O pat txt m n) m x → post 0) : wpY_isCovered post (nI m, nI n, pat, txt, mo) (nI x) :=
  nm_r (tw_msub x m) ⟨m + 1, yw_ic_l hm hn hx h1 h0 (m + 1) (x + 1) (by omega) (by omega) (by omega) (fun i _ i1 i2 => by omega)⟩
theorem yw_cov_l {post : Int32 → Prop} (hm : m ≤ 16) (hn : n ≤ 48) (hp : post (nI (tw_cnt (tw_Cov (tw_O pat txt m n) m) n))) :
    ∀ N a, n < N + a → a ≤ n → wY_covered_4 post (nI m) (nI n) pat txt mo N (nI (tw_cnt (tw_Cov (tw_O pat txt m n) m) a)) (nI a) := by
  intro N
  induction N with
  | zero => intro a h1 h2; omega
  | succ N ih =>
    intro a h1 h2
    refine pk_le n a (fun z => ?_) (fun z => yw_ic hm hn z (fun o => br_f tw_10 ?_) (fun o => br_t rfl ?_))
    · have e : a = n := by omega
      subst e
      exact hp
    · exact nm_r ((nI_1 _).trans (congrArg nI (tw_cnt_y o).symm)) (nm_r (nI_1 a) (ih (a + 1) (by omega) (by omega)))
    · refine nm_r (nI_1 a) ?_
      have := ih (a + 1) (by omega) (by omega)
      rw [tw_cnt_n o] at this
      exact this
theorem yw_cov {post : Int32 → Prop} (hm : m ≤ 16) (hn : n ≤ 48) (hp : post (nI (tw_cnt (tw_Cov (tw_O pat txt m n) m) n))) : wpY_covered post (nI m, nI n, pat, txt, mo) :=
  ⟨n + 1, yw_cov_l hm hn hp (n + 1) 0 (by omega) (by omega)⟩
/-! Y: the rotations that are found -/
theorem yw_if_l {post : Int32 → Prop} {s : Nat} (hm : m ≤ 16) (hn : n ≤ 48) (hs : s < m) (h1 : tw_Fo pat txt m n s → post 1) (h0 : ¬ tw_Fo pat txt m n s → post 0) :
    ∀ N a, n < N + a → a ≤ n → (∀ x, x < a → ¬ tw_O (tw_rot pat m s) txt m n x) → wY_isFound_2 post (nI s) (nI m) (nI n) pat txt mo N (nI a) := by
  intro N
  induction N with
  | zero => intro a h1 h2; omega
  | succ N ih =>
    intro a g1 g2 g3
    refine pk_le n a (fun z => h0 (fun ⟨i, o⟩ => g3 i (by have := tw_O_lt o; omega) o)) (fun z => yw_st hm hn (by omega) (fun _ => hs) (fun o => br_f tw_10 (h1 ⟨a, o⟩)) (fun o => br_t rfl (nm_r (nI_1 a) ?_)))
    refine ih (a + 1) (by omega) (by omega) (fun x hx => ?_)
    by_cases q : x = a
    · rw [q]; exact o
    · exact g3 x (by omega)
theorem yw_if {post : Int32 → Prop} {s : Nat} (hm : m ≤ 16) (hn : n ≤ 48) (hs : s < m) (h1 : tw_Fo pat txt m n s → post 1) (h0 : ¬ tw_Fo pat txt m n s → post 0) : wpY_isFound post (nI m, nI n, pat, txt, mo) (nI s) :=
  ⟨n + 1, yw_if_l hm hn hs h1 h0 (n + 1) 0 (by omega) (by omega) (fun x hx => absurd hx (by omega))⟩
theorem yw_rf_l {post : Int32 → Prop} (hm : m ≤ 16) (hn : n ≤ 48) (hp : post (nI (tw_cnt (tw_Fo pat txt m n) m))) :
    ∀ N a, m < N + a → a ≤ m → wY_rotationsFound_4 post (nI m) (nI n) pat txt mo N (nI (tw_cnt (tw_Fo pat txt m n) a)) (nI a) := by
  intro N
  induction N with
  | zero => intro a h1 h2; omega
  | succ N ih =>
    intro a h1 h2
    refine pk_le m a (fun z => ?_) (fun z => yw_if hm hn z (fun o => br_f tw_10 ?_) (fun o => br_t rfl ?_))
    · have e : a = m := by omega
      subst e
      exact hp
    · exact nm_r ((nI_1 _).trans (congrArg nI (tw_cnt_y o).symm)) (nm_r (nI_1 a) (ih (a + 1) (by omega) (by omega)))
    · refine nm_r (nI_1 a) ?_
      have := ih (a + 1) (by omega) (by omega)
      rw [tw_cnt_n o] at this
      exact this
theorem yw_rf {post : Int32 → Prop} (hm : m ≤ 16) (hn : n ≤ 48) (hp : post (nI (tw_cnt (tw_Fo pat txt m n) m))) : wpY_rotationsFound post (nI m, nI n, pat, txt, mo) :=
  ⟨m + 1, yw_rf_l hm hn hp (m + 1) 0 (by omega) (by omega)⟩
end YO
end
section
section YR
variable {m n : Nat} {pat txt mo : Nat → Int32}
/-! Y: periods and borders -/
theorem yw_ip_l {post : Int32 → Prop} {q : Nat} (hm : m ≤ 16) (hq1 : 1 ≤ q) (hq2 : q ≤ m) (h1 : tw_Bd pat m (m - q) → post 1) (h0 : ¬ tw_Bd pat m (m - q) → post 0) :
    ∀ N i, m < N + i → i ≤ m - q → (∀ x, x < i → pat x = pat (x + q)) → wY_isPeriod_2 post (nI q) (nI m) (nI n) pat txt mo N (nI i) := by
  intro N
  induction N with
  | zero => intro i h1 h2; omega
  | succ N ih =>
    intro i g1 g2 g3
    refine pk_le (m - q) i (fun z => h1 ((tw_pd hq1 hq2).mpr (fun x hx => g3 x (by omega)))) (fun z => ?_) (pk_sub hq2)
    rw [nI_add i q, nI_clamp (n := i) (by omega), nI_clamp (n := i + q) (by omega)]
    refine ⟨pk_in i 16 (by omega), pk_in (i + q) 16 (by omega), br_c (fun e => nm_r (nI_1 i) ?_) (fun e => h0 (fun b => e ((tw_pd hq1 hq2).mp b i z)))⟩
    refine ih (i + 1) (by omega) (by omega) (fun x hx => ?_)
    by_cases y : x = i
    · rw [y]; exact e
    · exact g3 x (by omega)
theorem yw_ip {post : Int32 → Prop} {q : Nat} (hm : m ≤ 16) (hq1 : 1 ≤ q) (hq2 : q ≤ m) (h1 : tw_Bd pat m (m - q) → post 1) (h0 : ¬ tw_Bd pat m (m - q) → post 0) : wpY_isPeriod post (nI m, nI n, pat, txt, mo) (nI q) :=
  ⟨m + 1, yw_ip_l hm hq1 hq2 h1 h0 (m + 1) 0 (by omega) (by omega) (fun x hx => absurd hx (by omega))⟩
theorem yw_pd_l {post : Int32 → Prop} (hm : m ≤ 16) (h0 : m = 0 → post (-4)) (h1 : ∀ l, tw_LB pat m l → post (nI (m - l))) :
    ∀ N q, m + 1 < N + q → 1 ≤ q → q ≤ m + 1 → (∀ x, 1 ≤ x → x < q → ¬ tw_Bd pat m (m - x)) → wY_period_2 post (nI m) (nI n) pat txt mo N (nI q) := by
  intro N
  induction N with
  | zero => intro q g1 g2 g3; omega
  | succ N ih =>
    intro q g1 g2 g3 g4
    refine pk_lt m q (fun z => ?_) (fun z => yw_ip hm g2 z (fun b => br_f tw_10 ?_) (fun b => br_t rfl (nm_r (nI_1 q) ?_)))
    · by_cases m0 : m = 0
      · exact h0 m0
      · refine absurd ?_ (g4 m (by omega) z)
        rw [Nat.sub_self]
        exact tw_bd_0 (by omega)
    · have L : tw_LB pat m (m - q) := ⟨b, fun l hl => by
        have l1 := hl.1
        apply Decidable.byContradiction
        intro hn
        refine g4 (m - l) (by omega) (by omega) ?_
        rw [show m - (m - l) = l by omega]
        exact hl⟩
      have := h1 (m - q) L
      rw [show m - (m - q) = q by omega] at this
      exact this
    · refine ih (q + 1) (by omega) (by omega) (by omega) (fun x x1 x2 => ?_)
      by_cases y : x = q
      · rw [y]; exact b
      · exact g4 x x1 (by omega)
theorem yw_period {post : Int32 → Prop} (hm : m ≤ 16) (h0 : m = 0 → post (-4)) (h1 : ∀ l, tw_LB pat m l → post (nI (m - l))) : wpY_period post (nI m, nI n, pat, txt, mo) :=
  ⟨m + 1, yw_pd_l hm h0 h1 (m + 1) 1 (by omega) (by omega) (by omega) (fun x x1 x2 => absurd x2 (by omega))⟩
theorem yw_ps_l {post : Int32 → Prop} (hm : m ≤ 16) :
    ∀ N q a, m + 1 < N + q → 1 ≤ q → q ≤ m + 1 → post (nI (a + tw_cnt (tw_Bd pat m) (m + 1 - q))) → wY_periods_4 post (nI m) (nI n) pat txt mo N (nI a) (nI q) := by
  intro N
  induction N with
  | zero => intro q a g1 g2 g3; omega
  | succ N ih =>
    intro q a g1 g2 g3 hp
    refine pk_lt m q (fun z => ?_) (fun z => yw_ip hm g2 z (fun b => br_f tw_10 ?_) (fun b => br_t rfl ?_))
    · rw [show m + 1 - q = 0 by omega] at hp
      exact hp
    · rw [show m + 1 - q = m - q + 1 by omega, tw_cnt_y b] at hp
      refine nm_r (nI_1 a) (nm_r (nI_1 q) (ih (q + 1) (a + 1) (by omega) (by omega) (by omega) ?_))
      rw [show m + 1 - (q + 1) = m - q by omega, show a + 1 + tw_cnt (tw_Bd pat m) (m - q) = a + (tw_cnt (tw_Bd pat m) (m - q) + 1) by omega]
      exact hp
    · rw [show m + 1 - q = m - q + 1 by omega, tw_cnt_n b] at hp
      refine nm_r (nI_1 q) (ih (q + 1) a (by omega) (by omega) (by omega) ?_)
      rw [show m + 1 - (q + 1) = m - q by omega]
      exact hp
theorem yw_periods {post : Int32 → Prop} (hm : m ≤ 16) (hp : post (nI (tw_cnt (tw_Bd pat m) m))) : wpY_periods post (nI m, nI n, pat, txt, mo) := by
  refine ⟨m + 1, yw_ps_l hm (m + 1) 1 0 (by omega) (by omega) (by omega) ?_⟩
  rw [Nat.zero_add, Nat.add_sub_cancel]
  exact hp
theorem yw_ib_l {post : Int32 → Prop} {k l : Nat} (hm : m ≤ 16) (hl : l < k) (hk : k ≤ m) (h1 : tw_Bd pat k l → post 1) (h0 : ¬ tw_Bd pat k l → post 0) :
    ∀ N i, l < N + i → i ≤ l → (∀ x, x < i → pat x = pat (k - l + x)) → wY_isBorder_2 post (nI k) (nI l) (nI m) (nI n) pat txt mo N (nI i) := by
  intro N
  induction N with
  | zero => intro i h1 h2; omega
  | succ N ih =>
    intro i g1 g2 g3
    refine pk_le l i (fun z => h1 ⟨hl, fun x hx => g3 x (by omega)⟩) (fun z => ?_)
    rw [pk_sub (a := k) (b := l) (by omega), nI_add (k - l) i, nI_clamp (n := i) (by omega), nI_clamp (n := k - l + i) (by omega)]
    refine ⟨pk_in i 16 (by omega), pk_in (k - l + i) 16 (by omega), br_c (fun e => nm_r (nI_1 i) ?_) (fun e => h0 (fun b => e (b.2 i z)))⟩
    refine ih (i + 1) (by omega) (by omega) (fun x hx => ?_)
    by_cases y : x = i
    · rw [y]; exact e
    · exact g3 x (by omega)
theorem yw_ib {post : Int32 → Prop} {k l : Nat} (hm : m ≤ 16) (hl : l < k) (hk : k ≤ m) (h1 : tw_Bd pat k l → post 1) (h0 : ¬ tw_Bd pat k l → post 0) : wpY_isBorder post (nI m, nI n, pat, txt, mo) (nI k) (nI l) :=
  ⟨l + 1, yw_ib_l hm hl hk h1 h0 (l + 1) 0 (by omega) (by omega) (fun x hx => absurd hx (by omega))⟩
theorem yw_bo_l {post : Int32 → Prop} {k : Nat} (hm : m ≤ 16) (hk : k ≤ m) (h1 : ∀ l, tw_LB pat k l → post (nI l)) :
    ∀ N l b, k < N + l → l ≤ k → tw_Bd pat k b → (∀ x, x < l → tw_Bd pat k x → x ≤ b) → wY_border_20 post (nI k) (nI m) (nI n) pat txt mo N (nI b) (nI l) := by
  intro N
  induction N with
  | zero => intro l b g1 g2; omega
  | succ N ih =>
    intro l b g1 g2 g3 g4
    have hb := g3.1
    refine pk_le k l (fun z => h1 b ⟨g3, fun x hx => g4 x (by have := hx.1; omega) hx⟩) (fun z => yw_ib hm z hk (fun e => br_f tw_10 (nm_r (nI_1 l) ?_)) (fun e => br_t rfl (nm_r (nI_1 l) ?_)))
    · exact ih (l + 1) l (by omega) (by omega) e (fun x hx _ => by omega)
    · refine ih (l + 1) b (by omega) (by omega) g3 (fun x hx hb => ?_)
      by_cases y : x = l
      · rw [y] at hb; exact absurd hb e
      · exact g4 x (by omega) hb
theorem yw_border {post : Int32 → Prop} {k : Nat} (hm : m ≤ 16) (hk1 : 1 ≤ k) (hk : k ≤ m) (h1 : ∀ l, tw_LB pat k l → post (nI l)) : wpY_border post (nI m, nI n, pat, txt, mo) (nI k) :=
  pk_lt k 1 (fun z => absurd z (by omega)) (fun _ => pk_le k m (fun _ => ⟨k + 1, yw_bo_l hm hk h1 (k + 1) 1 0 (by omega) (by omega) (tw_bd_0 (by omega)) (fun x hx _ => by omega)⟩) (fun z => absurd z (by omega)))
/-! Y: the overlap -/
theorem yw_ew_l {post : Int32 → Prop} {l : Nat} (hm : m ≤ 16) (hn : n ≤ 48) (hl : l ≤ m) (hln : l ≤ n) (h1 : tw_Ov pat txt m n l → post 1) (h0 : ¬ tw_Ov pat txt m n l → post 0) :
    ∀ N i, l < N + i → i ≤ l → (∀ x, x < i → txt (n - l + x) = pat x) → wY_endsWith_2 post (nI l) (nI m) (nI n) pat txt mo N (nI i) := by
  intro N
  induction N with
  | zero => intro i h1 h2; omega
  | succ N ih =>
    intro i g1 g2 g3
    refine pk_le l i (fun z => h1 ⟨hl, hln, fun x hx => g3 x (by omega)⟩) (fun z => ?_)
    rw [pk_sub (a := n) (b := l) (by omega), nI_add (n - l) i, nI_clamp (n := i) (by omega), nI_clamp (n := n - l + i) (by omega)]
    refine ⟨pk_in (n - l + i) 48 (by omega), pk_in i 16 (by omega), br_c (fun e => nm_r (nI_1 i) ?_) (fun e => h0 (fun b => e (b.2.2 i z)))⟩
    refine ih (i + 1) (by omega) (by omega) (fun x hx => ?_)
    by_cases y : x = i
    · rw [y]; exact e
    · exact g3 x (by omega)
theorem yw_ew {post : Int32 → Prop} {l : Nat} (hm : m ≤ 16) (hn : n ≤ 48) (hl : l ≤ m) (hln : l ≤ n) (h1 : tw_Ov pat txt m n l → post 1) (h0 : ¬ tw_Ov pat txt m n l → post 0) : wpY_endsWith post (nI m, nI n, pat, txt, mo) (nI l) :=
  ⟨l + 1, yw_ew_l hm hn hl hln h1 h0 (l + 1) 0 (by omega) (by omega) (fun x hx => absurd hx (by omega))⟩
theorem yw_ov_l {post : Int32 → Prop} (hm : m ≤ 16) (hn : n ≤ 48) (h1 : ∀ k, tw_LO pat txt m n k → post (nI k)) :
    ∀ N l b, m + 1 < N + l → l ≤ m + 1 → tw_Ov pat txt m n b → (∀ x, x < l → tw_Ov pat txt m n x → x ≤ b) → wY_overlap_4 post (nI m) (nI n) pat txt mo N (nI b) (nI l) := by
  intro N
  induction N with
  | zero => intro l b g1 g2; omega
  | succ N ih =>
    intro l b g1 g2 g3 g4
    refine pk_lt m l (fun z => h1 b ⟨g3, fun x hx => g4 x (by have := hx.1; omega) hx⟩) (fun z => pk_lt n l (fun y => h1 b ⟨g3, fun x hx => g4 x (by have := hx.2.1; omega) hx⟩) (fun y => yw_ew hm hn z y (fun e => br_f tw_10 (nm_r (nI_1 l) ?_)) (fun e => br_t rfl (nm_r (nI_1 l) ?_))))
    · exact ih (l + 1) l (by omega) (by omega) e (fun x hx _ => by omega)
    · refine ih (l + 1) b (by omega) (by omega) g3 (fun x hx hb => ?_)
      by_cases q : x = l
      · rw [q] at hb; exact absurd hb e
      · exact g4 x (by omega) hb
theorem yw_overlap {post : Int32 → Prop} (hm : m ≤ 16) (hn : n ≤ 48) (h1 : ∀ k, tw_LO pat txt m n k → post (nI k)) : wpY_overlap post (nI m, nI n, pat, txt, mo) :=
  ⟨m + 1, yw_ov_l hm hn h1 (m + 1) 1 0 (by omega) (by omega) tw_ov_0 (fun x hx _ => by omega)⟩
/-! Y: which end comes first -/
def tw_Bf (o : Int32) (f : Nat → Int32) (a b e : Nat) : Prop := ∃ k, b + k < e ∧ (∀ t, t < k → f (a + t) = f (b + t)) ∧ tw_K o (f (b + k)) < tw_K o (f (a + k))
theorem yw_bf_l {post : Int32 → Prop} {a b e : Nat} {o : Int32} (hab : a < b) (he : e ≤ 16) (h1 : tw_Bf o pat a b e → post 1) (h0 : ¬ tw_Bf o pat a b e → post 0) :
    ∀ N k, e < N + (b + k) → b + k ≤ e → (∀ t, t < k → pat (a + t) = pat (b + t)) → wY_before_3 post (nI a) (nI b) (nI e) o (nI m) (nI n) pat txt mo N (nI k) := by
  intro N
  induction N with
  | zero => intro k h1 h2; omega
  | succ N ih =>
    intro k g1 g2 g3
    refine pk_le e (a + k) (fun z => absurd z (by omega)) (fun _ => pk_le e (b + k) (fun z => ?_) (fun z => ?_) (hy := nI_add b k)) (hy := nI_add a k)
    · have hn : ¬ tw_Bf o pat a b e := fun ⟨l, l1, l2, l3⟩ => by
        have := g3 l (by omega)
        rw [this] at l3
        omega
      unfold wY_before_87
      rw [pk_sub (a := e) (b := a) (by omega), pk_sub (a := e) (b := b) (by omega)]
      exact pk_le (e - b) (e - a) (fun _ => h0 hn) (fun z => absurd z (by omega))
    · rw [nI_add a k, nI_add b k, nI_clamp (n := a + k) (by omega), nI_clamp (n := b + k) (by omega)]
      refine ⟨pk_in (a + k) 16 (by omega), nm_e ⟨pk_in (b + k) 16 (by omega), nm_e (br_c (fun e1 => nm_r (nI_1 k) ?_) (fun e1 => ?_))⟩⟩
      · refine ih (k + 1) (by omega) (by omega) (fun t ht => ?_)
        by_cases y : t = k
        · rw [y]; exact e1
        · exact g3 t (by omega)
      · have Y : tw_K o (pat (b + k)) < tw_K o (pat (a + k)) → post 1 := fun l => h1 ⟨k, z, g3, l⟩
        have Z : ¬ tw_K o (pat (b + k)) < tw_K o (pat (a + k)) → post 0 := fun l => h0 (fun ⟨j, j1, j2, j3⟩ => by
          rcases Nat.lt_trichotomy j k with q | q | q
          · rw [g3 j q] at j3; omega
          · subst q; exact l j3
          · exact e1 (j2 k q))
        unfold tw_K at Y Z
        by_cases ho : o = 0
        · rw [if_pos ho, if_pos ho] at Y Z
          refine br_t ho (br_c (fun h => Z ?_) (fun h => Y ?_))
          · rw [Int32.le_iff_toInt_le] at h; omega
          · rw [Int32.le_iff_toInt_le] at h; omega
        · rw [if_neg ho, if_neg ho] at Y Z
          refine br_f ho (br_c (fun h => Z ?_) (fun h => Y ?_))
          · rw [Int32.le_iff_toInt_le] at h; omega
          · rw [Int32.le_iff_toInt_le] at h; omega
theorem yw_bf {post : Int32 → Prop} {a b e : Nat} {o : Int32} (hab : a < b) (hbe : b ≤ e) (he : e ≤ 16) (h1 : tw_Bf o pat a b e → post 1) (h0 : ¬ tw_Bf o pat a b e → post 0) : wpY_before post (nI m, nI n, pat, txt, mo) (nI a) (nI b) (nI e) o :=
  ⟨e + 1, yw_bf_l hab he h1 h0 (e + 1) 0 (by omega) (by omega) (fun t ht => absurd ht (by omega))⟩
theorem yw_ge_l {post : Int32 → Prop} {o : Int32} (hm : m ≤ 16) (h0 : 0 < m) (hp : ∀ b, tw_MS (fun i => tw_K o (pat i)) b m → post (nI b)) :
    ∀ N b i, m < N + i → i ≤ m → b < i → tw_L (fun i => tw_K o (pat i)) b m i → tw_H (fun i => tw_K o (pat i)) b m → wY_greatestEnd_15 post o (nI m) (nI n) pat txt mo N (nI b) (nI i) := by
  intro N
  induction N with
  | zero => intro b i g1 g2; omega
  | succ N ih =>
    intro b i g1 g2 g3 g4 g5
    refine pk_le m i (fun z => ?_) (fun z => yw_bf g3 (by omega) hm (fun e => br_f tw_10 (nm_r (nI_1 i) ?_)) (fun e => br_t rfl (nm_r (nI_1 i) ?_)))
    · have e : i = m := by omega
      rw [e] at g3 g4
      exact br_f (nI_ne0 h0 (by omega)) (hp b ⟨g3, g4, g5⟩)
    · obtain ⟨k, k1, k2, k3⟩ := e
      obtain ⟨a1, a2⟩ := tw_sc_y g3 g4 g5 k1 (fun t ht => tw_K_eq.mpr (k2 t ht)) k3
      exact ih i (i + 1) (by omega) (by omega) (by omega) a1 a2
    · refine ih b (i + 1) (by omega) (by omega) (by omega) (tw_sc_n g4 (fun k k1 k2 => ?_)) g5
      apply Decidable.byContradiction
      intro hn
      exact e ⟨k, k1, fun t ht => tw_K_eq.mp (k2 t ht), by
        have hn' : ¬ tw_K o (pat (b + k)) ≤ tw_K o (pat (i + k)) := hn
        omega⟩
theorem yw_ge_0 {post : Int32 → Prop} {o : Int32} (h0 : m = 0) (hp : post (-4)) : wY_greatestEnd_15 post o (nI m) (nI n) pat txt mo 1 0 1 := by
  subst h0
  exact pk_le 0 1 (fun _ => br_t rfl hp) (fun z => absurd z (by omega))
/-! Y: the least rotation -/
theorem yw_rb_l {post : Int32 → Prop} {a b : Nat} (hm : m ≤ 16) (ha : a < m) (hb : b < m) (h1 : tw_RL pat m a b → post 1) (h0 : ¬ tw_RL pat m a b → post 0) :
    ∀ N k, m < N + k → k ≤ m → (∀ t, t < k → tw_R pat m a t = tw_R pat m b t) → wY_rotationBefore_2 post (nI a) (nI b) (nI m) (nI n) pat txt mo N (nI k) := by
  intro N
  induction N with
  | zero => intro k h1 h2; omega
  | succ N ih =>
    intro k g1 g2 g3
    refine pk_le m k (fun z => h0 (fun ⟨l, l1, l2, l3⟩ => ?_)) (fun z => ?_)
    · rw [g3 l (by omega)] at l3
      omega
    · have ma := Nat.mod_lt (a + k) (show m > 0 by omega)
      have mb := Nat.mod_lt (b + k) (show m > 0 by omega)
      rw [nI_add a k, nI_add b k, pk_rem (a := a + k) (d := m) (by omega) (by omega) (by omega), pk_rem (a := b + k) (d := m) (by omega) (by omega) (by omega), nI_clamp (n := (a + k) % m) (by omega), nI_clamp (n := (b + k) % m) (by omega)]
      refine ⟨nI_ne0 (by omega) (by omega), pk_in ((a + k) % m) 16 (by omega), nm_e ⟨nI_ne0 (by omega) (by omega), pk_in ((b + k) % m) 16 (by omega), nm_e (br_c (fun e => nm_r (nI_1 k) ?_) (fun e => br_c (fun l => h0 (fun ⟨j, j1, j2, j3⟩ => ?_)) (fun l => h1 ⟨k, z, g3, ?_⟩)))⟩⟩
      · refine ih (k + 1) (by omega) (by omega) (fun t ht => ?_)
        by_cases y : t = k
        · rw [y]; unfold tw_R; rw [e]
        · exact g3 t (by omega)
      · rcases Nat.lt_trichotomy j k with q | q | q
        · rw [g3 j q] at j3; omega
        · subst q
          unfold tw_R at j3
          rw [Int32.le_iff_toInt_le] at l
          omega
        · have := j2 k q
          unfold tw_R at this
          exact e (Int32.toInt_inj.mp this)
      · unfold tw_R
        rw [Int32.le_iff_toInt_le] at l
        omega
theorem yw_rb {post : Int32 → Prop} {a b : Nat} (hm : m ≤ 16) (ha : a < m) (hb : b < m) (h1 : tw_RL pat m a b → post 1) (h0 : ¬ tw_RL pat m a b → post 0) : wpY_rotationBefore post (nI m, nI n, pat, txt, mo) (nI a) (nI b) :=
  ⟨m + 1, yw_rb_l hm ha hb h1 h0 (m + 1) 0 (by omega) (by omega) (fun t ht => absurd ht (by omega))⟩
theorem yw_lr_l {post : Int32 → Prop} (hm : m ≤ 16) (h0 : 0 < m) (hp : ∀ L, L < m → tw_FLu pat m L m → post (nI L)) :
    ∀ N b i, m < N + i → i ≤ m → b < i → tw_FLu pat m b i → wY_leastRotation_4 post (nI m) (nI n) pat txt mo N (nI b) (nI i) := by
  intro N
  induction N with
  | zero => intro b i g1 g2; omega
  | succ N ih =>
    intro b i g1 g2 g3 g4
    refine pk_le m i (fun z => ?_) (fun z => yw_rb hm z (by omega) (fun e => br_f tw_10 (nm_r (nI_1 i) ?_)) (fun e => br_t rfl (nm_r (nI_1 i) ?_)))
    · have e : i = m := by omega
      rw [e] at g3 g4
      exact br_f (nI_ne0 h0 (by omega)) (hp b g3 g4)
    · exact ih i (i + 1) (by omega) (by omega) (by omega) (tw_fl_y g4 e)
    · exact ih b (i + 1) (by omega) (by omega) (by omega) (tw_fl_n g4 e)
theorem yw_leastRotation {post : Int32 → Prop} (hm : m ≤ 16) (h0 : m = 0 → post (-4)) (hp : ∀ L, L < m → tw_FLu pat m L m → post (nI L)) : wpY_leastRotation post (nI m, nI n, pat, txt, mo) := by
  by_cases m0 : m = 0
  · have q := h0 m0
    subst m0
    exact ⟨1, pk_le 0 1 (fun _ => br_t rfl q) (fun z => absurd z (by omega))⟩
  · exact ⟨m + 1, yw_lr_l hm (by omega) hp (m + 1) 0 1 (by omega) (by omega) (by omega) ⟨fun a ha => absurd ha (by omega), fun a h1 h2 => absurd h2 (by omega)⟩⟩
/-! Y: the factors -/
theorem tw_Bf_D {a b e : Nat} : tw_Bf 0 pat a b e ↔ tw_D (tw_V pat) a b e := by
  have h : ∀ x y : Int32, tw_K 0 x < tw_K 0 y ↔ y.toInt < x.toInt := fun x y => by
    unfold tw_K
    rw [if_pos rfl, if_pos rfl]
    omega
  constructor
  · rintro ⟨k, k1, k2, k3⟩
    exact ⟨k, k1, fun t ht => congrArg Int32.toInt (k2 t ht), (h _ _).mp k3⟩
  · rintro ⟨k, k1, k2, k3⟩
    exact ⟨k, k1, fun t ht => Int32.toInt_inj.mp (k2 t ht), (h _ _).mpr k3⟩
theorem yw_il_l {post : Int32 → Prop} {s e : Nat} (hse : s < e) (he : e ≤ 16) (h1 : tw_Lyn (tw_V pat) s e → post 1) (h0 : ¬ tw_Lyn (tw_V pat) s e → post 0) :
    ∀ N i, e < N + i → s < i → i ≤ e → (∀ x, s < x → x < i → tw_D (tw_V pat) s x e) → wY_isLyndon_4 post (nI s) (nI e) (nI m) (nI n) pat txt mo N (nI i) := by
  intro N
  induction N with
  | zero => intro i g1 g2 g3; omega
  | succ N ih =>
    intro i g1 g2 g3 g4
    refine pk_le e i (fun z => pk_le e s (fun y => absurd y (by omega)) (fun _ => h1 ⟨hse, fun x x1 x2 => g4 x x1 (by omega)⟩)) (fun z => yw_bf g2 (by omega) he (fun q => br_f tw_10 (nm_r (nI_1 i) ?_)) (fun q => br_t rfl (h0 (fun l => q (tw_Bf_D.mpr (l.2 i g2 z))))))
    refine ih (i + 1) (by omega) (by omega) (by omega) (fun x x1 x2 => ?_)
    by_cases y : x = i
    · rw [y]; exact tw_Bf_D.mp q
    · exact g4 x x1 (by omega)
theorem yw_il {post : Int32 → Prop} {s e : Nat} (hse : s < e) (he : e ≤ 16) (h1 : tw_Lyn (tw_V pat) s e → post 1) (h0 : ¬ tw_Lyn (tw_V pat) s e → post 0) : wpY_isLyndon post (nI m, nI n, pat, txt, mo) (nI s) (nI e) :=
  nm_r (nI_1 s) ⟨e + 1, yw_il_l hse he h1 h0 (e + 1) (s + 1) (by omega) (by omega) (by omega) (fun x x1 x2 => absurd x2 (by omega))⟩
theorem yw_fe_l {post : Int32 → Prop} {s : Nat} (hm : m ≤ 16) (hp : ∀ e, tw_LE (tw_V pat) m s e → post (nI e)) :
    ∀ N b e, m + 1 < N + e → s < e → e ≤ m + 1 → tw_Lyn (tw_V pat) s b → b ≤ m → (∀ x, x < e → tw_Lyn (tw_V pat) s x → x ≤ b) → wY_factorEnd_8 post (nI s) (nI m) (nI n) pat txt mo N (nI b) (nI e) := by
  intro N
  induction N with
  | zero => intro b e g1 g2 g3; omega
  | succ N ih =>
    intro b e g1 g2 g3 g4 g5 g6
    refine pk_lt m e (fun z => hp b ⟨g4, g5, fun x x1 x2 => g6 x (by omega) x2⟩) (fun z => yw_il g2 (by omega) (fun q => br_f tw_10 (nm_r (nI_1 e) ?_)) (fun q => br_t rfl (nm_r (nI_1 e) ?_)))
    · exact ih e (e + 1) (by omega) (by omega) (by omega) q z (fun x x1 _ => by omega)
    · refine ih b (e + 1) (by omega) (by omega) (by omega) g4 g5 (fun x x1 x2 => ?_)
      by_cases y : x = e
      · rw [y] at x2; exact absurd x2 q
      · exact g6 x (by omega) x2
theorem yw_fe {post : Int32 → Prop} {s : Nat} (hm : m ≤ 16) (hs : s < m) (hp : ∀ e, tw_LE (tw_V pat) m s e → post (nI e)) : wpY_factorEnd post (nI m, nI n, pat, txt, mo) (nI s) :=
  nm_r (nI_1 s) (nm_r (nI_1 s) ⟨m + 1, yw_fe_l hm hp (m + 1) (s + 1) (s + 1) (by omega) (by omega) (by omega) ⟨by omega, fun i h1 h2 => absurd h2 (by omega)⟩ (by omega) (fun x x1 x2 => by omega)⟩)
theorem yw_fs_l {post : Int32 → Prop} {c : Nat} (hm : m ≤ 16) (h1 : tw_st (tw_V pat) m c = m) (h2 : ∀ x, x < c → tw_st (tw_V pat) m x < m) (hp : post (nI c)) :
    ∀ N a, c < N + a → a ≤ c → wY_factors_4 post (nI m) (nI n) pat txt mo N (nI a) (nI (tw_st (tw_V pat) m a)) := by
  intro N
  induction N with
  | zero => intro a g1 g2; omega
  | succ N ih =>
    intro a g1 g2
    by_cases e : a = c
    · subst e
      rw [h1]
      exact pk_le m m (fun _ => hp) (fun z => absurd z (by omega))
    · have lt := h2 a (by omega)
      refine pk_le m (tw_st (tw_V pat) m a) (fun z => absurd z (by omega)) (fun _ => yw_fe hm lt (fun y hy => nm_r (nI_1 a) ?_))
      rw [← tw_st_s hy]
      exact ih (a + 1) (by omega) (by omega)
theorem yw_factors {post : Int32 → Prop} {c : Nat} (hm : m ≤ 16) (h1 : tw_st (tw_V pat) m c = m) (h2 : ∀ x, x < c → tw_st (tw_V pat) m x < m) (hp : post (nI c)) : wpY_factors post (nI m, nI n, pat, txt, mo) :=
  ⟨c + 1, yw_fs_l hm h1 h2 hp (c + 1) 0 (by omega) (by omega)⟩
theorem yw_fa_l {post : Int32 → Prop} {c : Nat} {f : Int32} (hm : m ≤ 16) (hc : c ≤ m) (h1 : tw_st (tw_V pat) m c = m) (h2 : ∀ x, x < c → tw_st (tw_V pat) m x < m)
    (hp1 : ∀ x, x < c → f = nI x → post (nI (tw_st (tw_V pat) m (x + 1)) - nI (tw_st (tw_V pat) m x))) (hp2 : (∀ x, x < c → ¬ nI x = f) → post (-4)) :
    ∀ N a, c < N + a → a ≤ c → (∀ x, x < a → ¬ nI x = f) → wY_factor_4 post f (nI m) (nI n) pat txt mo N (nI a) (nI (tw_st (tw_V pat) m a)) := by
  intro N
  induction N with
  | zero => intro a g1 g2; omega
  | succ N ih =>
    intro a g1 g2 g3
    by_cases e : a = c
    · subst e
      rw [h1]
      exact pk_le m m (fun _ => hp2 g3) (fun z => absurd z (by omega))
    · have lt := h2 a (by omega)
      refine pk_le m (tw_st (tw_V pat) m a) (fun z => absurd z (by omega)) (fun _ => yw_fe hm lt (fun y hy => ?_))
      rw [← tw_st_s hy]
      refine br_c (fun q => hp1 a (by omega) q.symm) (fun q => nm_r (nI_1 a) (ih (a + 1) (by omega) (by omega) (fun x hx => ?_)))
      by_cases y : x = a
      · rw [y]; exact q
      · exact g3 x (by omega)
theorem yw_factor {post : Int32 → Prop} {c : Nat} {f : Int32} (hm : m ≤ 16) (hc : c ≤ m) (h1 : tw_st (tw_V pat) m c = m) (h2 : ∀ x, x < c → tw_st (tw_V pat) m x < m)
    (hp1 : ∀ x, x < c → f = nI x → post (nI (tw_st (tw_V pat) m (x + 1)) - nI (tw_st (tw_V pat) m x))) (hp2 : (∀ x, x < c → ¬ nI x = f) → post (-4)) : wpY_factor post (nI m, nI n, pat, txt, mo) f :=
  ⟨c + 1, yw_fa_l hm hc h1 h2 hp1 hp2 (c + 1) 0 (by omega) (by omega) (fun x hx => absurd hx (by omega))⟩
end YR
end
section
/-! the relation, and what is owed -/
theorem tw_MS_cg {w w' : Nat → Int} {b m : Nat} (h : ∀ i, i < m → w i = w' i) (g : tw_MS w' b m) : tw_MS w b m := by
  obtain ⟨g1, g2, g3⟩ := g
  refine ⟨g1, fun i i1 i2 k k1 k2 => ?_, fun i i1 => ?_⟩
  · rw [h (b + k) (by omega), h (i + k) (by omega)]
    refine g2 i i1 i2 k k1 (fun t ht => ?_)
    rw [← h (b + t) (by omega), ← h (i + t) (by omega)]
    exact k2 t ht
  · obtain ⟨k, k1, k2, k3⟩ := g3 i i1
    refine ⟨k, k1, fun t ht => ?_, ?_⟩
    · rw [h (b + t) (by omega), h (i + t) (by omega)]
      exact k2 t ht
    · rw [h (b + k) (by omega), h (i + k) (by omega)]
      exact k3
def tw_F (m n : Nat) (fs fk : Int32) (pat txt plc : Nat → Int32) : Prop := m ≤ 16 ∧ n ≤ 48 ∧ (¬ fs = 0 → ∃ k, fk = nI k ∧ tw_PL (tw_O pat txt m n) n k plc)
def i_Rel (k : Nat) (u : SX) (v : SY) : Prop := ∃ (m n : Nat) (fc ft fC fT fs fk : Int32) (pat txt wrd plc brd fac mo : Nat → Int32), u = (nI m, nI n, fc, ft, fC, fT, fs, fk, pat, txt, wrd, plc, brd, fac) ∧ v = (nI m, nI n, pat, txt, mo) ∧ tw_F m n fs fk pat txt plc
theorem tw_in {k m n : Nat} {fc ft fC fT fs fk : Int32} {pat txt wrd plc brd fac mo : Nat → Int32} (h : tw_F m n fs fk pat txt plc) : i_Rel k (nI m, nI n, fc, ft, fC, fT, fs, fk, pat, txt, wrd, plc, brd, fac) (nI m, nI n, pat, txt, mo) :=
  ⟨m, n, fc, ft, fC, fT, fs, fk, pat, txt, wrd, plc, brd, fac, mo, rfl, rfl, h⟩
theorem tw_el {Q : SX → SY → Prop} {k : Nat} {u : SX} {v : SY} (I : i_Rel k u v) (h : ∀ (m n : Nat) (fc ft fC fT fs fk : Int32) (pat txt wrd plc brd fac mo : Nat → Int32), tw_F m n fs fk pat txt plc → Q (nI m, nI n, fc, ft, fC, fT, fs, fk, pat, txt, wrd, plc, brd, fac) (nI m, nI n, pat, txt, mo)) : Q u v := by
  obtain ⟨m, n, fc, ft, fC, fT, fs, fk, pat, txt, wrd, plc, brd, fac, mo, rfl, rfl, f⟩ := I
  exact h m n fc ft fC fT fs fk pat txt wrd plc brd fac mo f
theorem i_up {k : Nat} {u : SX} {v : SY} (h : i_Rel k u v) : i_Rel (k + 2) u v := h
theorem i_vc0 : wpX_init (fun u => wpY_init (fun v => i_Rel 0 u v)) :=
  tw_in (k := 0) (m := 0) (n := 0) ⟨by omega, by omega, fun h => absurd rfl h⟩
theorem i_vc_pattern {k : Nat} {u : SX} {v : SY} (I : i_Rel k u v) (hk : k + 2 ≤ 1024) (v1 : Int32) : wpX_pattern (fun r u' => wpY_pattern (fun r' v' => r' = r ∧ i_Rel (k + 2) u' v') v v1) u v1 := by
  refine tw_el (Q := fun u v => wpX_pattern (fun r u' => wpY_pattern (fun r' v' => r' = r ∧ i_Rel (k + 2) u' v') v v1) u v1) I ?_
  intro m n fc ft fC fT fs fk pat txt wrd plc brd fac mo f
  by_cases h0 : v1 < 0
  · exact br_t h0 (br_f tw_10 (br_t h0 (br_t rfl ⟨rfl, tw_in f⟩)))
  · by_cases h2 : v1 ≤ 2
    · have h2' : ¬ 2 < v1 := Int32.not_lt.mpr h2
      have f1 := f.1
      refine br_f h0 (br_t h2 (br_t rfl (pk_eq m 16 (fun e => ?_) (fun e => ?_))))
      · exact br_f h0 (br_f h2' (br_f tw_10 (pk_eq m 16 (fun _ => ⟨rfl, tw_in f⟩) (fun z => absurd e z))))
      · rw [nI_clamp (n := m) (by omega)]
        refine ⟨pk_in m 16 (by omega), nm_e (nm_r (nI_1 m) ?_)⟩
        refine br_f h0 (br_f h2' (br_f tw_10 (pk_eq m 16 (fun z => absurd z e) (fun _ => ?_))))
        rw [nI_clamp (n := m) (by omega)]
        exact ⟨pk_in m 16 (by omega), nm_e (nm_r (nI_1 m) ⟨rfl, tw_in ⟨by omega, f.2.1, fun h => absurd rfl h⟩⟩)⟩
    · have h2' : 2 < v1 := Int32.not_le.mp h2
      exact br_f h0 (br_f h2 (br_f tw_10 (br_f h0 (br_t h2' (br_t rfl ⟨rfl, tw_in f⟩)))))
theorem i_vc_scrap {k : Nat} {u : SX} {v : SY} (I : i_Rel k u v) (hk : k + 2 ≤ 1024) : wpX_scrap (fun u' => wpY_scrap (fun v' => i_Rel (k + 2) u' v') v) u := by
  refine tw_el (Q := fun u v => wpX_scrap (fun u' => wpY_scrap (fun v' => i_Rel (k + 2) u' v') v) u) I ?_
  intro m n fc ft fC fT fs fk pat txt wrd plc brd fac mo f
  exact tw_in (k := k + 2) (m := 0) ⟨by omega, f.2.1, fun h => absurd rfl h⟩
theorem i_vc_feed {k : Nat} {u : SX} {v : SY} (I : i_Rel k u v) (hk : k + 2 ≤ 1024) (v1 : Int32) : wpX_feed (fun r u' => wpY_feed (fun r' v' => r' = r ∧ i_Rel (k + 2) u' v') v v1) u v1 := by
  refine tw_el (Q := fun u v => wpX_feed (fun r u' => wpY_feed (fun r' v' => r' = r ∧ i_Rel (k + 2) u' v') v v1) u v1) I ?_
  intro m n fc ft fC fT fs fk pat txt wrd plc brd fac mo f
  by_cases h0 : v1 < 0
  · exact br_t h0 (br_f tw_10 (br_t h0 (br_t rfl ⟨rfl, tw_in f⟩)))
  · by_cases h2 : v1 ≤ 2
    · have h2' : ¬ 2 < v1 := Int32.not_lt.mpr h2
      have f1 := f.2.1
      refine br_f h0 (br_t h2 (br_t rfl (pk_eq n 48 (fun e => ?_) (fun e => ?_))))
      · exact br_f h0 (br_f h2' (br_f tw_10 (pk_eq n 48 (fun _ => ⟨rfl, tw_in f⟩) (fun z => absurd e z))))
      · rw [nI_clamp (n := n) (by omega)]
        refine ⟨pk_in n 48 (by omega), nm_e (nm_r (nI_1 n) ?_)⟩
        refine br_f h0 (br_f h2' (br_f tw_10 (pk_eq n 48 (fun z => absurd z e) (fun _ => ?_))))
        rw [nI_clamp (n := n) (by omega)]
        exact ⟨pk_in n 48 (by omega), nm_e (nm_r (nI_1 n) ⟨rfl, tw_in ⟨f.1, by omega, fun h => absurd rfl h⟩⟩)⟩
    · have h2' : 2 < v1 := Int32.not_le.mp h2
      exact br_f h0 (br_f h2 (br_f tw_10 (br_f h0 (br_t h2' (br_t rfl ⟨rfl, tw_in f⟩)))))
def tw_fd (pat txt : Nat → Int32) (n : Nat) : Nat → Nat → Int32
  | 0 => txt
  | i + 1 => upd (tw_fd pat txt n i) (n + i) (pat i)
theorem xw_fd {m n : Nat} {fc ft fC fT fs fk : Int32} {pat txt wrd plc brd fac : Nat → Int32} {post : Int32 → SX → Prop} (hm : m ≤ 16) (hn : n + m ≤ 48) (hp : post (nI (n + m)) (nI m, (nI (n + m)), fc, ft, fC, fT, 0, fk, pat, (tw_fd pat txt n m), wrd, plc, brd, fac)) :
    ∀ N i, m < N + i → i ≤ m → wX_feedPattern_19 post (nI m) (nI n) fc ft fC fT fs fk N (nI i) pat (tw_fd pat txt n i) wrd plc brd fac := by
  intro N
  induction N with
  | zero => intro i h1 h2; omega
  | succ N ih =>
    intro i h1 h2
    refine pk_le m i (fun z => nm_r (nI_add n m) ?_) (fun z => ?_)
    · have e : i = m := by omega
      rw [e]
      exact hp
    · rw [nI_add n i, nI_clamp (n := n + i) (by omega), nI_clamp (n := i) (by omega)]
      exact ⟨pk_in i 16 (by omega), pk_in (n + i) 48 (by omega), nm_e (nm_r (nI_1 i) (ih (i + 1) (by omega) (by omega)))⟩
theorem yw_fd {m n : Nat} {pat txt mo : Nat → Int32} {post : Int32 → SY → Prop} (hm : m ≤ 16) (hn : n + m ≤ 48) (hp : post (nI (n + m)) (nI m, (nI (n + m)), pat, (tw_fd pat txt n m), mo)) :
    ∀ N i, m < N + i → i ≤ m → wY_feedPattern_19 post (nI m) N (nI i) (nI (n + i)) pat (tw_fd pat txt n i) mo := by
  intro N
  induction N with
  | zero => intro i h1 h2; omega
  | succ N ih =>
    intro i h1 h2
    refine pk_le m i (fun z => ?_) (fun z => ?_)
    · have e : i = m := by omega
      rw [e]
      exact hp
    · rw [nI_clamp (n := n + i) (by omega), nI_clamp (n := i) (by omega)]
      exact ⟨pk_in i 16 (by omega), pk_in (n + i) 48 (by omega), nm_e (nm_r (nI_1 (n + i)) (nm_r (nI_1 i) (ih (i + 1) (by omega) (by omega))))⟩
theorem i_vc_feedPattern {k : Nat} {u : SX} {v : SY} (I : i_Rel k u v) (hk : k + 2 ≤ 1024) : wpX_feedPattern (fun r u' => wpY_feedPattern (fun r' v' => r' = r ∧ i_Rel (k + 2) u' v') v) u := by
  refine tw_el (Q := fun u v => wpX_feedPattern (fun r u' => wpY_feedPattern (fun r' v' => r' = r ∧ i_Rel (k + 2) u' v') v) u) I ?_
  intro m n fc ft fC fT fs fk pat txt wrd plc brd fac mo f
  have f1 := f.1
  have f2 := f.2.1
  refine pk_le (n + m) 48 (fun z => ⟨17, ?_⟩) (fun z => ?_) (nI_add n m)
  · refine xw_fd f1 z ?_ 17 0 (by omega) (by omega)
    refine pk_le (n + m) 48 (fun _ => ⟨17, ?_⟩) (fun y => absurd y (by omega)) (nI_add n m)
    refine yw_fd f1 z ?_ 17 0 (by omega) (by omega)
    exact ⟨rfl, tw_in ⟨f1, z, fun h => absurd rfl h⟩⟩
  · exact pk_le (n + m) 48 (fun y => absurd y (by omega)) (fun _ => ⟨rfl, tw_in f⟩) (nI_add n m)
theorem i_vc_erase {k : Nat} {u : SX} {v : SY} (I : i_Rel k u v) (hk : k + 2 ≤ 1024) : wpX_erase (fun u' => wpY_erase (fun v' => i_Rel (k + 2) u' v') v) u := by
  refine tw_el (Q := fun u v => wpX_erase (fun u' => wpY_erase (fun v' => i_Rel (k + 2) u' v') v) u) I ?_
  intro m n fc ft fC fT fs fk pat txt wrd plc brd fac mo f
  exact tw_in (k := k + 2) (n := 0) ⟨f.1, by omega, fun h => absurd rfl h⟩
theorem i_vc_patternLength {k : Nat} {u : SX} {v : SY} (I : i_Rel k u v) (hk : k + 2 ≤ 1024) : wpX_patternLength (fun r => wpY_patternLength (fun r' => r' = r ∧ i_Rel (k + 2) u v) v) u := by
  refine tw_el (Q := fun u v => wpX_patternLength (fun r => wpY_patternLength (fun r' => r' = r ∧ i_Rel (k + 2) u v) v) u) I ?_
  intro m n fc ft fC fT fs fk pat txt wrd plc brd fac mo f
  exact ⟨rfl, tw_in f⟩
theorem i_vc_textLength {k : Nat} {u : SX} {v : SY} (I : i_Rel k u v) (hk : k + 2 ≤ 1024) : wpX_textLength (fun r => wpY_textLength (fun r' => r' = r ∧ i_Rel (k + 2) u v) v) u := by
  refine tw_el (Q := fun u v => wpX_textLength (fun r => wpY_textLength (fun r' => r' = r ∧ i_Rel (k + 2) u v) v) u) I ?_
  intro m n fc ft fC fT fs fk pat txt wrd plc brd fac mo f
  exact ⟨rfl, tw_in f⟩
theorem i_vc_occurrences {k : Nat} {u : SX} {v : SY} (I : i_Rel k u v) (hk : k + 2 ≤ 1024) : wpX_occurrences (fun r u' => wpY_occurrences (fun r' => r' = r ∧ i_Rel (k + 2) u' v) v) u := by
  refine tw_el (Q := fun u v => wpX_occurrences (fun r u' => wpY_occurrences (fun r' => r' = r ∧ i_Rel (k + 2) u' v) v) u) I ?_
  intro m n fc ft fC fT fs fk pat txt wrd plc brd fac mo f
  obtain ⟨f1, f2, f3⟩ := f
  unfold wpX_occurrences
  dsimp only
  refine xw_findAll f1 f2 f3 (fun c t x y z c' w pl hz H => ?_)
  refine yw_occ f1 f2 ⟨by rw [H.1], tw_in ⟨f1, f2, fun _ => ⟨c', rfl, H⟩⟩⟩
theorem i_vc_next {k : Nat} {u : SX} {v : SY} (I : i_Rel k u v) (hk : k + 2 ≤ 1024) (v1 : Int32) : wpX_next (fun r u' => wpY_next (fun r' => r' = r ∧ i_Rel (k + 2) u' v) v v1) u v1 := by
  refine tw_el (Q := fun u v => wpX_next (fun r u' => wpY_next (fun r' => r' = r ∧ i_Rel (k + 2) u' v) v v1) u v1) I ?_
  intro m n fc ft fC fT fs fk pat txt wrd plc brd fac mo f
  obtain ⟨f1, f2, f3⟩ := f
  unfold wpX_next
  dsimp only
  refine xw_findAll f1 f2 f3 (fun c t x y z c' w pl hz H => ⟨n + 1 + 1, ?_⟩)
  refine xw_next_l f2 H (fun i i1 i2 i3 i4 => ?_) (fun h => ?_) (n + 1) 0 (by omega) (by omega) (fun x hx => absurd hx (by omega))
  · refine yw_next f1 f2 (fun j j1 j2 j3 j4 => ⟨?_, tw_in ⟨f1, f2, fun _ => ⟨c', rfl, H⟩⟩⟩) (fun h => absurd (h i i1 i2) i3)
    rcases Nat.lt_trichotomy i j with q | q | q
    · exact absurd (j4 i q i2) i3
    · rw [q]
    · exact absurd (i4 j q j2) j3
  · exact yw_next f1 f2 (fun j j1 j2 j3 j4 => absurd (h j j1 j2) j3) (fun _ => ⟨rfl, tw_in ⟨f1, f2, fun _ => ⟨c', rfl, H⟩⟩⟩)
theorem i_vc_apart {k : Nat} {u : SX} {v : SY} (I : i_Rel k u v) (hk : k + 2 ≤ 1024) : wpX_apart (fun r u' => wpY_apart (fun r' v' => r' = r ∧ i_Rel (k + 2) u' v') v) u := by
  refine tw_el (Q := fun u v => wpX_apart (fun r u' => wpY_apart (fun r' v' => r' = r ∧ i_Rel (k + 2) u' v') v) u) I ?_
  intro m n fc ft fC fT fs fk pat txt wrd plc brd fac mo f
  obtain ⟨f1, f2, f3⟩ := f
  unfold wpX_apart
  dsimp only
  refine xw_findAll f1 f2 f3 (fun c t x y z c' w pl hz H => ⟨n + 1 + 1, ?_⟩)
  refine xw_apart_l f1 f2 (fun i o => tw_O_lt o) (fun i o => o.1) (fun i o => o.2.1) H (n + 1) 0 0 0 (by omega) (by omega) (by omega) ?_
  refine yw_apart f1 f2 (fun mo' => ⟨?_, tw_in ⟨f1, f2, fun _ => ⟨c', rfl, H⟩⟩⟩)
  exact congrArg nI (Nat.zero_add _).symm
theorem i_vc_covered {k : Nat} {u : SX} {v : SY} (I : i_Rel k u v) (hk : k + 2 ≤ 1024) : wpX_covered (fun r u' => wpY_covered (fun r' => r' = r ∧ i_Rel (k + 2) u' v) v) u := by
  refine tw_el (Q := fun u v => wpX_covered (fun r u' => wpY_covered (fun r' => r' = r ∧ i_Rel (k + 2) u' v) v) u) I ?_
  intro m n fc ft fC fT fs fk pat txt wrd plc brd fac mo f
  obtain ⟨f1, f2, f3⟩ := f
  unfold wpX_covered
  dsimp only
  refine xw_findAll f1 f2 f3 (fun c t x y z c' w pl hz H => ⟨n + 1 + 1, ?_⟩)
  refine xw_cov_l f1 f2 (fun i o => tw_O_lt o) (fun i o => o.1) (fun i o => o.2.1) H ?_ (n + 1) 0 0 (by omega) (by omega) (by omega) (by omega) (fun i hi => absurd hi (by omega))
  exact yw_cov f1 f2 ⟨rfl, tw_in ⟨f1, f2, fun _ => ⟨c', rfl, H⟩⟩⟩
theorem i_vc_period {k : Nat} {u : SX} {v : SY} (I : i_Rel k u v) (hk : k + 2 ≤ 1024) : wpX_period (fun r u' => wpY_period (fun r' => r' = r ∧ i_Rel (k + 2) u' v) v) u := by
  refine tw_el (Q := fun u v => wpX_period (fun r u' => wpY_period (fun r' => r' = r ∧ i_Rel (k + 2) u' v) v) u) I ?_
  intro m n fc ft fC fT fs fk pat txt wrd plc brd fac mo f
  refine xw_period f.1 (fun e => ?_) (fun l br h0 L => ?_)
  · exact yw_period f.1 (fun _ => ⟨rfl, tw_in f⟩) (fun l L => absurd L.1.1 (by omega))
  · exact yw_period f.1 (fun e => absurd e (by omega)) (fun l' L' => ⟨by rw [tw_LB_uq L L'], tw_in f⟩)
theorem i_vc_border {k : Nat} {u : SX} {v : SY} (I : i_Rel k u v) (hk : k + 2 ≤ 1024) (v1 : Int32) : wpX_border (fun r u' => wpY_border (fun r' => r' = r ∧ i_Rel (k + 2) u' v) v v1) u v1 := by
  refine tw_el (Q := fun u v => wpX_border (fun r u' => wpY_border (fun r' => r' = r ∧ i_Rel (k + 2) u' v) v v1) u v1) I ?_
  intro m n fc ft fC fT fs fk pat txt wrd plc brd fac mo f
  have f1 := f.1
  by_cases h1 : v1 < 1
  · exact br_t h1 (br_t h1 ⟨rfl, tw_in f⟩)
  · by_cases h2 : v1 ≤ nI m
    · have hx : ∃ x : Nat, 1 ≤ x ∧ x ≤ m ∧ v1 = nI x := by
        have h0 : ¬ v1 < 0 := fun z => h1 (Int32.lt_trans z (by decide))
        obtain ⟨x, x1, rfl⟩ := nI_of h0
        have h1' : ¬ nI x < nI 1 := h1
        rw [nI_ltI x1 (by omega)] at h1'
        rw [nI_leI x1 (by omega)] at h2
        exact ⟨x, by omega, h2, rfl⟩
      obtain ⟨x, x1, x2, rfl⟩ := hx
      refine xw_border f1 x1 x2 (fun l br L => ?_)
      exact yw_border f1 x1 x2 (fun l' L' => ⟨by rw [tw_LB_uq L L'], tw_in f⟩)
    · exact br_f h1 (br_f h2 (br_f h1 (br_f h2 ⟨rfl, tw_in f⟩)))
theorem i_vc_periods {k : Nat} {u : SX} {v : SY} (I : i_Rel k u v) (hk : k + 2 ≤ 1024) : wpX_periods (fun r u' => wpY_periods (fun r' => r' = r ∧ i_Rel (k + 2) u' v) v) u := by
  refine tw_el (Q := fun u v => wpX_periods (fun r u' => wpY_periods (fun r' => r' = r ∧ i_Rel (k + 2) u' v) v) u) I ?_
  intro m n fc ft fC fT fs fk pat txt wrd plc brd fac mo f
  refine xw_periods f.1 (fun br => ?_)
  exact yw_periods f.1 ⟨rfl, tw_in f⟩
theorem i_vc_greatestEnd {k : Nat} {u : SX} {v : SY} (I : i_Rel k u v) (hk : k + 2 ≤ 1024) (v1 : Int32) : wpX_greatestEnd (fun r u' => wpY_greatestEnd (fun r' => r' = r ∧ i_Rel (k + 2) u' v) v v1) u v1 := by
  refine tw_el (Q := fun u v => wpX_greatestEnd (fun r u' => wpY_greatestEnd (fun r' => r' = r ∧ i_Rel (k + 2) u' v) v v1) u v1) I ?_
  intro m n fc ft fC fT fs fk pat txt wrd plc brd fac mo f
  have f1 := f.1
  by_cases h0 : v1 < 0
  · exact br_t h0 (br_t h0 ⟨rfl, tw_in f⟩)
  · by_cases h1 : v1 ≤ 1
    · refine br_f h0 (br_t h1 (pk_eq m 0 (fun e => ?_) (fun e => ?_)))
      · exact br_f h0 (br_t h1 ⟨1, yw_ge_0 e ⟨rfl, tw_in f⟩⟩)
      · refine xw_rot (s := 0) f1 (by omega) (fun w hw => ?_)
        refine xw_findEnd f1 (by omega) (fun b p M _ => ?_)
        refine br_f h0 (br_t h1 ⟨m + 1, ?_⟩)
        refine yw_ge_l f1 (by omega) (fun b' M' => ⟨?_, tw_in f⟩) (m + 1) 0 1 (by omega) (by omega) (by omega) (fun i h1 h2 => absurd h2 (by omega)) (fun i hi => absurd hi (by omega))
        have hw2 : ∀ x, x < m → w x = pat x := fun x hx => by
          rw [hw x hx]
          show pat ((0 + x) % m) = _
          rw [Nat.zero_add, Nat.mod_eq_of_lt hx]
        have M2 : tw_MS (fun i => tw_K v1 (w i)) b' m := tw_MS_cg (fun i hi => by rw [hw2 i hi]) M'
        rw [tw_MS_uq M M2]
    · exact br_f h0 (br_f h1 (br_f h0 (br_f h1 ⟨rfl, tw_in f⟩)))
theorem i_vc_leastRotation {k : Nat} {u : SX} {v : SY} (I : i_Rel k u v) (hk : k + 2 ≤ 1024) : wpX_leastRotation (fun r => wpY_leastRotation (fun r' => r' = r ∧ i_Rel (k + 2) u v) v) u := by
  refine tw_el (Q := fun u v => wpX_leastRotation (fun r => wpY_leastRotation (fun r' => r' = r ∧ i_Rel (k + 2) u v) v) u) I ?_
  intro m n fc ft fC fT fs fk pat txt wrd plc brd fac mo f
  refine xw_leastRotation f.1 (fun e => ?_) (fun L L1 L2 => ?_)
  · exact yw_leastRotation f.1 (fun _ => ⟨rfl, tw_in f⟩) (fun L L1 _ => absurd L1 (by omega))
  · refine yw_leastRotation f.1 (fun e => absurd L1 (by omega)) (fun M M1 M2 => ⟨?_, tw_in f⟩)
    rcases Nat.lt_trichotomy L M with q | q | q
    · exact absurd (M2.1 L q) (L2.2 M q M1)
    · rw [q]
    · exact absurd (L2.1 M q) (M2.2 L q L1)
theorem i_vc_factors {k : Nat} {u : SX} {v : SY} (I : i_Rel k u v) (hk : k + 2 ≤ 1024) : wpX_factors (fun r u' => wpY_factors (fun r' => r' = r ∧ i_Rel (k + 2) u' v) v) u := by
  refine tw_el (Q := fun u v => wpX_factors (fun r u' => wpY_factors (fun r' => r' = r ∧ i_Rel (k + 2) u' v) v) u) I ?_
  intro m n fc ft fC fT fs fk pat txt wrd plc brd fac mo f
  refine xw_cutFactors f.1 (fun c fa h1 h2 h3 => ?_)
  exact yw_factors f.1 h1 (fun x hx => (h2 x hx).1) ⟨rfl, tw_in f⟩
theorem i_vc_factor {k : Nat} {u : SX} {v : SY} (I : i_Rel k u v) (hk : k + 2 ≤ 1024) (v1 : Int32) : wpX_factor (fun r u' => wpY_factor (fun r' => r' = r ∧ i_Rel (k + 2) u' v) v v1) u v1 := by
  refine tw_el (Q := fun u v => wpX_factor (fun r u' => wpY_factor (fun r' => r' = r ∧ i_Rel (k + 2) u' v) v v1) u v1) I ?_
  intro m n fc ft fC fT fs fk pat txt wrd plc brd fac mo f
  have f1 := f.1
  refine xw_cutFactors f1 (fun c fa h1 h2 h3 => ?_)
  by_cases h0 : v1 < 0
  · refine br_t h0 (yw_factor f1 h3 h1 (fun x hx => (h2 x hx).1) (fun x x1 x2 => ?_) (fun _ => ⟨rfl, tw_in f⟩))
    rw [x2] at h0
    exact absurd h0 (nI_pos (by omega))
  · obtain ⟨x, x1, rfl⟩ := nI_of h0
    refine br_f h0 (pk_lt x c (fun z => ?_) (fun z => ?_))
    · rw [nI_clamp (n := x) (by omega), (h2 x z).2.2]
      refine ⟨pk_in x 16 (by omega), yw_factor f1 h3 h1 (fun x hx => (h2 x hx).1) (fun y y1 y2 => ⟨?_, tw_in f⟩) (fun h => absurd rfl (h x z))⟩
      have e : x = y := (nI_eq (by omega) (by omega)).mp y2
      subst e
      exact pk_sub (h2 x z).2.1
    · refine yw_factor f1 h3 h1 (fun x hx => (h2 x hx).1) (fun y y1 y2 => ?_) (fun _ => ⟨rfl, tw_in f⟩)
      have e : x = y := (nI_eq (by omega) (by omega)).mp y2
      omega
theorem i_vc_rotationsFound {k : Nat} {u : SX} {v : SY} (I : i_Rel k u v) (hk : k + 2 ≤ 1024) : wpX_rotationsFound (fun r u' => wpY_rotationsFound (fun r' => r' = r ∧ i_Rel (k + 2) u' v) v) u := by
  refine tw_el (Q := fun u v => wpX_rotationsFound (fun r u' => wpY_rotationsFound (fun r' => r' = r ∧ i_Rel (k + 2) u' v) v) u) I ?_
  intro m n fc ft fC fT fs fk pat txt wrd plc brd fac mo f
  refine ⟨17, xw_rf_l f.1 f.2.1 (fun c t x y w => ?_) 17 0 _ _ _ _ _ (by have := f.1; omega) (by omega)⟩
  exact yw_rf f.1 f.2.1 ⟨rfl, tw_in f⟩
theorem i_vc_overlap {k : Nat} {u : SX} {v : SY} (I : i_Rel k u v) (hk : k + 2 ≤ 1024) : wpX_overlap (fun r u' => wpY_overlap (fun r' => r' = r ∧ i_Rel (k + 2) u' v) v) u := by
  refine tw_el (Q := fun u v => wpX_overlap (fun r u' => wpY_overlap (fun r' => r' = r ∧ i_Rel (k + 2) u' v) v) u) I ?_
  intro m n fc ft fC fT fs fk pat txt wrd plc brd fac mo f
  refine xw_overlap f.1 f.2.1 (fun x br h => ?_)
  exact yw_overlap f.1 f.2.1 (fun x' h' => ⟨by rw [tw_LO_uq h h'], tw_in f⟩)
end
